theorem q9714 : (Jvm.Cond.castable "[LWasteHouse$ShareSolve$Amount;" "java/lang/Object") ∈ lw_tbl := lw_at lw_m39 202 rfl
set_option maxRecDepth 100000
