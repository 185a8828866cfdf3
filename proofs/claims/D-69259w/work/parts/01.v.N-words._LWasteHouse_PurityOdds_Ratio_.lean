theorem q9724 : (Jvm.Cond.castable "[LWasteHouse$PurityOdds$Ratio;" "java/lang/Object") ∈ lw_tbl := lw_at lw_m39 212 rfl
set_option maxRecDepth 100000
