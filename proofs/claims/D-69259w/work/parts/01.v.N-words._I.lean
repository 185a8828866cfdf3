theorem q9710 : (Jvm.Cond.castable "[I" "java/lang/Object") ∈ lw_tbl := lw_at lw_m39 198 rfl
set_option maxRecDepth 100000
