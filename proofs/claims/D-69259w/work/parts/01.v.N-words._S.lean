theorem q9719 : (Jvm.Cond.castable "[S" "java/lang/Object") ∈ lw_tbl := lw_at lw_m39 207 rfl
set_option maxRecDepth 100000
