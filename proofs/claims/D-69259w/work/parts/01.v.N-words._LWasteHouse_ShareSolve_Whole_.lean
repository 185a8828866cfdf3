theorem q9713 : (Jvm.Cond.castable "[LWasteHouse$ShareSolve$Whole;" "java/lang/Object") ∈ lw_tbl := lw_at lw_m39 201 rfl
set_option maxRecDepth 100000
