theorem q9727 : (Jvm.Cond.castable "[Ljava/util/HashMap$Node;" "java/lang/Object") ∈ lw_tbl := lw_at lw_m39 215 rfl
set_option maxRecDepth 100000
