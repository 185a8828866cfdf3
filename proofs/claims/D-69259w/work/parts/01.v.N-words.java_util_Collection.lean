theorem q4661 : (Jvm.Cond.interfaceMethod "java/util/Collection" "java/util/Collection" "iterator" "()Ljava/util/Iterator;") ∈ lw_tbl := lw_at lw_m18 189 rfl
set_option maxRecDepth 100000
theorem q4662 : (Jvm.Cond.declares ({ cls := "java/util/Collection", name := "iterator", desc := "()Ljava/util/Iterator;" } : Jvm.MethodName)) ∈ lw_tbl := lw_at lw_m18 190 rfl
