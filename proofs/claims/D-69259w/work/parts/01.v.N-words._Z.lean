theorem q9712 : (Jvm.Cond.castable "[Z" "java/lang/Object") ∈ lw_tbl := lw_at lw_m39 200 rfl
set_option maxRecDepth 100000
