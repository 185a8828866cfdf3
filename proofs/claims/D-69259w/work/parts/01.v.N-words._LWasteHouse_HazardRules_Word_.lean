theorem q935 : (Jvm.Cond.sameMethod "[LWasteHouse$HazardRules$Word;" "java/lang/Object" "clone" "()Ljava/lang/Object;") ∈ lw_all := lw_g (lw_at lw_m3 63 rfl) rfl
set_option maxRecDepth 100000
theorem q938 : (Jvm.Cond.selects "[LWasteHouse$HazardRules$Word;" ({ cls := "[LWasteHouse$HazardRules$Word;", name := "clone", desc := "()Ljava/lang/Object;" } : Jvm.MethodName) ({ cls := "java/lang/Object", name := "clone", desc := "()Ljava/lang/Object;" } : Jvm.MethodName)) ∈ lw_all := lw_g (lw_at lw_m3 66 rfl) rfl
theorem q939 : (Jvm.Cond.castable "[LWasteHouse$HazardRules$Word;" "java/lang/Cloneable") ∈ lw_tbl := lw_at lw_m3 67 rfl
theorem q9715 : (Jvm.Cond.castable "[LWasteHouse$HazardRules$Word;" "java/lang/Object") ∈ lw_tbl := lw_at lw_m39 203 rfl
