theorem q4485 : (Jvm.Cond.interfaceMethod "java/util/Map$Entry" "java/util/Map$Entry" "getKey" "()Ljava/lang/Object;") ∈ lw_tbl := lw_at lw_m18 13 rfl
set_option maxRecDepth 100000
theorem q4486 : (Jvm.Cond.declares ({ cls := "java/util/Map$Entry", name := "getKey", desc := "()Ljava/lang/Object;" } : Jvm.MethodName)) ∈ lw_tbl := lw_at lw_m18 14 rfl
theorem q4514 : (Jvm.Cond.interfaceMethod "java/util/Map$Entry" "java/util/Map$Entry" "getValue" "()Ljava/lang/Object;") ∈ lw_tbl := lw_at lw_m18 42 rfl
theorem q4515 : (Jvm.Cond.declares ({ cls := "java/util/Map$Entry", name := "getValue", desc := "()Ljava/lang/Object;" } : Jvm.MethodName)) ∈ lw_tbl := lw_at lw_m18 43 rfl
