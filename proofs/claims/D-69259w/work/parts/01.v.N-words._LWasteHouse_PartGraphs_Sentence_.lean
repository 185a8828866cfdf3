theorem q1494 : (Jvm.Cond.sameMethod "[LWasteHouse$PartGraphs$Sentence;" "java/lang/Object" "clone" "()Ljava/lang/Object;") ∈ lw_all := lw_g (lw_at lw_m5 142 rfl) rfl
set_option maxRecDepth 100000
theorem q1495 : (Jvm.Cond.selects "[LWasteHouse$PartGraphs$Sentence;" ({ cls := "[LWasteHouse$PartGraphs$Sentence;", name := "clone", desc := "()Ljava/lang/Object;" } : Jvm.MethodName) ({ cls := "java/lang/Object", name := "clone", desc := "()Ljava/lang/Object;" } : Jvm.MethodName)) ∈ lw_all := lw_g (lw_at lw_m5 143 rfl) rfl
theorem q1496 : (Jvm.Cond.castable "[LWasteHouse$PartGraphs$Sentence;" "java/lang/Cloneable") ∈ lw_tbl := lw_at lw_m5 144 rfl
theorem q9721 : (Jvm.Cond.castable "[LWasteHouse$PartGraphs$Sentence;" "java/lang/Object") ∈ lw_tbl := lw_at lw_m39 209 rfl
