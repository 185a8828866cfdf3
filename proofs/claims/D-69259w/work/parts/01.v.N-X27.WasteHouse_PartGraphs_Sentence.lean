/-! WasteHouse$PartGraphs$Sentence -/
set_option maxRecDepth 100000
def RX27 : String := "WasteHouse$PartGraphs$Sentence"
abbrev cX27_values : ByteArray := prog_30_method_1_code
def yX27_values : MethodName := ⟨RX27, "values", "()[LWasteHouse$PartGraphs$Sentence;"⟩
def dkwX27_values_0 : List UInt8 := [178, 0, 25, 182, 0, 29, 192, 0, 30, 176]
abbrev dktX27_values_0 : List UInt8 := dkwX27_values_0 ++ []
theorem dksX27_values_0 : cX27_values.data.toList.drop 0 = dktX27_values_0 := by decide +kernel
theorem dX27_values_0 : decode cX27_values 0 = .ok (.getstatic 25, 3) := dk_178 0 25 (dk_at dksX27_values_0 0 rfl rfl)
theorem dX27_values_3 : decode cX27_values 3 = .ok (.invokevirtual 29, 3) := dk_182 0 29 (dk_at dksX27_values_0 3 rfl rfl)
theorem dX27_values_6 : decode cX27_values 6 = .ok (.checkcast 30, 3) := dk_192 0 30 (dk_at dksX27_values_0 6 rfl rfl)
theorem dX27_values_9 : decode cX27_values 9 = .ok (.areturn, 1) := dk_176 (dk_at dksX27_values_0 9 rfl rfl)
theorem q426 : (Jvm.Cond.initialized "WasteHouse$PartGraphs$Sentence") ∈ lw_all := lw_g (lw_at lw_m1 34 rfl) rfl
theorem q1489 : (Jvm.Cond.static ({ cls := "WasteHouse$PartGraphs$Sentence", name := "values", desc := "()[LWasteHouse$PartGraphs$Sentence;" } : Jvm.MethodName)) ∈ lw_all := lw_g (lw_at lw_m5 137 rfl) rfl
theorem q1490 : (Jvm.Cond.code ({ cls := "WasteHouse$PartGraphs$Sentence", name := "values", desc := "()[LWasteHouse$PartGraphs$Sentence;" } : Jvm.MethodName) prog_30_method_1_code (0 : Nat) (Option.some (Jvm.ClassFile.FieldType.array (Jvm.ClassFile.FieldType.object "WasteHouse$PartGraphs$Sentence")))) ∈ lw_all := lw_g (lw_at lw_m5 138 rfl) rfl
theorem q1491 : (Jvm.Cond.fieldLink "WasteHouse$PartGraphs$Sentence" (25 : Nat) "WasteHouse$PartGraphs$Sentence" "$VALUES" "[LWasteHouse$PartGraphs$Sentence;") ∈ lw_all := lw_g (lw_at lw_m5 139 rfl) rfl
theorem q1492 : (Jvm.Cond.laysStatic "WasteHouse$PartGraphs$Sentence" "$VALUES" "[LWasteHouse$PartGraphs$Sentence;") ∈ lw_tbl := lw_at lw_m5 140 rfl
theorem q1493 : (Jvm.Cond.methodLink "WasteHouse$PartGraphs$Sentence" (29 : Nat) ({ cls := "[LWasteHouse$PartGraphs$Sentence;", name := "clone", desc := "()Ljava/lang/Object;" } : Jvm.MethodName)) ∈ lw_all := lw_g (lw_at lw_m5 141 rfl) rfl
theorem q1498 : (Jvm.Cond.classLink "WasteHouse$PartGraphs$Sentence" (30 : Nat) "[LWasteHouse$PartGraphs$Sentence;") ∈ lw_all := lw_g (lw_at lw_m5 146 rfl) rfl
theorem q2000 : (Jvm.Cond.selects "WasteHouse$PartGraphs$Sentence" ({ cls := "java/lang/Object", name := "getClass", desc := "()Ljava/lang/Class;" } : Jvm.MethodName) ({ cls := "java/lang/Object", name := "getClass", desc := "()Ljava/lang/Class;" } : Jvm.MethodName)) ∈ lw_all := lw_g (lw_at lw_m7 168 rfl) rfl
theorem q3110 : (Jvm.Cond.selects "WasteHouse$PartGraphs$Sentence" ({ cls := "java/lang/Object", name := "equals", desc := "(Ljava/lang/Object;)Z" } : Jvm.MethodName) ({ cls := "java/lang/Enum", name := "equals", desc := "(Ljava/lang/Object;)Z" } : Jvm.MethodName)) ∈ lw_all := lw_g (lw_at lw_m12 78 rfl) rfl
theorem q3628 : (Jvm.Cond.selects "WasteHouse$PartGraphs$Sentence" ({ cls := "java/lang/Object", name := "hashCode", desc := "()I" } : Jvm.MethodName) ({ cls := "java/lang/Enum", name := "hashCode", desc := "()I" } : Jvm.MethodName)) ∈ lw_all := lw_g (lw_at lw_m14 116 rfl) rfl
theorem q3826 : (Jvm.Cond.selects "WasteHouse$PartGraphs$Sentence" ({ cls := "java/lang/Enum", name := "compareTo", desc := "(Ljava/lang/Enum;)I" } : Jvm.MethodName) ({ cls := "java/lang/Enum", name := "compareTo", desc := "(Ljava/lang/Enum;)I" } : Jvm.MethodName)) ∈ lw_all := lw_g (lw_at lw_m15 74 rfl) rfl
theorem q3833 : (Jvm.Cond.selects "WasteHouse$PartGraphs$Sentence" ({ cls := "java/lang/Enum", name := "getDeclaringClass", desc := "()Ljava/lang/Class;" } : Jvm.MethodName) ({ cls := "java/lang/Enum", name := "getDeclaringClass", desc := "()Ljava/lang/Class;" } : Jvm.MethodName)) ∈ lw_all := lw_g (lw_at lw_m15 81 rfl) rfl
theorem q3835 : (Jvm.Cond.castable "WasteHouse$PartGraphs$Sentence" "java/lang/Comparable") ∈ lw_tbl := lw_at lw_m15 83 rfl
theorem q3836 : (Jvm.Cond.selects "WasteHouse$PartGraphs$Sentence" ({ cls := "java/lang/Comparable", name := "compareTo", desc := "(Ljava/lang/Object;)I" } : Jvm.MethodName) ({ cls := "java/lang/Enum", name := "compareTo", desc := "(Ljava/lang/Object;)I" } : Jvm.MethodName)) ∈ lw_all := lw_g (lw_at lw_m15 84 rfl) rfl
theorem q3837 : (Jvm.Cond.unhidden "WasteHouse$PartGraphs$Sentence" "compareTo" "(Ljava/lang/Object;)I") ∈ lw_tbl := lw_at lw_m15 85 rfl
theorem q5817 : (Jvm.Cond.laysStatic "WasteHouse$PartGraphs$Sentence" "PART" "LWasteHouse$PartGraphs$Sentence;") ∈ lw_tbl := lw_at lw_m23 145 rfl
theorem q5819 : (Jvm.Cond.laysStatic "WasteHouse$PartGraphs$Sentence" "OPTION" "LWasteHouse$PartGraphs$Sentence;") ∈ lw_tbl := lw_at lw_m23 147 rfl
theorem q5821 : (Jvm.Cond.laysStatic "WasteHouse$PartGraphs$Sentence" "DAMAGE" "LWasteHouse$PartGraphs$Sentence;") ∈ lw_tbl := lw_at lw_m23 149 rfl
theorem q5823 : (Jvm.Cond.laysStatic "WasteHouse$PartGraphs$Sentence" "FASTEN" "LWasteHouse$PartGraphs$Sentence;") ∈ lw_tbl := lw_at lw_m23 151 rfl
theorem q5825 : (Jvm.Cond.laysStatic "WasteHouse$PartGraphs$Sentence" "COVER" "LWasteHouse$PartGraphs$Sentence;") ∈ lw_tbl := lw_at lw_m23 153 rfl
theorem q5831 : (Jvm.Cond.laysStatic "WasteHouse$PartGraphs$Sentence" "WAY" "LWasteHouse$PartGraphs$Sentence;") ∈ lw_tbl := lw_at lw_m23 159 rfl
theorem q5841 : (Jvm.Cond.laysStatic "WasteHouse$PartGraphs$Sentence" "HAZARD" "LWasteHouse$PartGraphs$Sentence;") ∈ lw_tbl := lw_at lw_m23 169 rfl
theorem q5853 : (Jvm.Cond.sameMethod "WasteHouse$PartGraphs$Sentence" "java/lang/Enum" "ordinal" "()I") ∈ lw_all := lw_g (lw_at lw_m23 181 rfl) rfl
theorem q5855 : (Jvm.Cond.selects "WasteHouse$PartGraphs$Sentence" ({ cls := "WasteHouse$PartGraphs$Sentence", name := "ordinal", desc := "()I" } : Jvm.MethodName) ({ cls := "java/lang/Enum", name := "ordinal", desc := "()I" } : Jvm.MethodName)) ∈ lw_all := lw_g (lw_at lw_m23 183 rfl) rfl
theorem q9607 : (Jvm.Cond.castable "WasteHouse$PartGraphs$Sentence" "java/lang/Enum") ∈ lw_tbl := lw_at lw_m39 95 rfl
theorem q9624 : (Jvm.Cond.castable "WasteHouse$PartGraphs$Sentence" "java/lang/Object") ∈ lw_tbl := lw_at lw_m39 112 rfl
theorem q9752 : (Jvm.Cond.stringRef "WasteHouse$PartGraphs$Sentence" (53 : Nat) "part") ∈ lw_tbl := lw_at lw_m40 0 rfl
theorem q9753 : (Jvm.Cond.stringRef "WasteHouse$PartGraphs$Sentence" (71 : Nat) "option") ∈ lw_tbl := lw_at lw_m40 1 rfl
theorem q9754 : (Jvm.Cond.stringRef "WasteHouse$PartGraphs$Sentence" (74 : Nat) "damage") ∈ lw_tbl := lw_at lw_m40 2 rfl
theorem q9755 : (Jvm.Cond.stringRef "WasteHouse$PartGraphs$Sentence" (65 : Nat) "fasten") ∈ lw_tbl := lw_at lw_m40 3 rfl
theorem q9756 : (Jvm.Cond.stringRef "WasteHouse$PartGraphs$Sentence" (59 : Nat) "cover") ∈ lw_tbl := lw_at lw_m40 4 rfl
theorem q9757 : (Jvm.Cond.stringRef "WasteHouse$PartGraphs$Sentence" (62 : Nat) "way") ∈ lw_tbl := lw_at lw_m40 5 rfl
theorem q9758 : (Jvm.Cond.stringRef "WasteHouse$PartGraphs$Sentence" (68 : Nat) "hazard") ∈ lw_tbl := lw_at lw_m40 6 rfl
