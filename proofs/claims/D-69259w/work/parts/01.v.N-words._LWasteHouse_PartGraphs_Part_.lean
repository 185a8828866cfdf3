theorem q9720 : (Jvm.Cond.castable "[LWasteHouse$PartGraphs$Part;" "java/lang/Object") ∈ lw_tbl := lw_at lw_m39 208 rfl
set_option maxRecDepth 100000
