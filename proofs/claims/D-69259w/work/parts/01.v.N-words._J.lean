theorem q9716 : (Jvm.Cond.castable "[J" "java/lang/Object") ∈ lw_tbl := lw_at lw_m39 204 rfl
set_option maxRecDepth 100000
