theorem q9723 : (Jvm.Cond.castable "[LWasteHouse$PurityOdds$Lot;" "java/lang/Object") ∈ lw_tbl := lw_at lw_m39 211 rfl
set_option maxRecDepth 100000
