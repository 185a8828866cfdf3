/-! WasteHouse$HazardRules$Word -/
set_option maxRecDepth 100000
def RX14 : String := "WasteHouse$HazardRules$Word"
abbrev cX14_values : ByteArray := prog_22_method_1_code
def yX14_values : MethodName := ⟨RX14, "values", "()[LWasteHouse$HazardRules$Word;"⟩
def dkwX14_values_0 : List UInt8 := [178, 0, 61, 182, 0, 65, 192, 0, 66, 176]
abbrev dktX14_values_0 : List UInt8 := dkwX14_values_0 ++ []
theorem dksX14_values_0 : cX14_values.data.toList.drop 0 = dktX14_values_0 := by decide +kernel
theorem dX14_values_0 : decode cX14_values 0 = .ok (.getstatic 61, 3) := dk_178 0 61 (dk_at dksX14_values_0 0 rfl rfl)
theorem dX14_values_3 : decode cX14_values 3 = .ok (.invokevirtual 65, 3) := dk_182 0 65 (dk_at dksX14_values_0 3 rfl rfl)
theorem dX14_values_6 : decode cX14_values 6 = .ok (.checkcast 66, 3) := dk_192 0 66 (dk_at dksX14_values_0 6 rfl rfl)
theorem dX14_values_9 : decode cX14_values 9 = .ok (.areturn, 1) := dk_176 (dk_at dksX14_values_0 9 rfl rfl)
abbrev cX14_isAt : ByteArray := prog_22_method_4_code
def yX14_isAt : MethodName := ⟨RX14, "isAt", "([BII)Z"⟩
def dkwX14_isAt_3 : List UInt8 := [4, 167, 0, 4, 3, 172]
abbrev dktX14_isAt_3 : List UInt8 := dkwX14_isAt_3 ++ []
def dkwX14_isAt_2 : List UInt8 := [180, 0, 80, 21, 5, 182, 0, 90, 160, 0, 9, 132, 5, 1, 167, 255, 228, 21, 5, 21, 4, 160, 0, 7]
abbrev dktX14_isAt_2 : List UInt8 := dkwX14_isAt_2 ++ dktX14_isAt_3
def dkwX14_isAt_1 : List UInt8 := [167, 0, 7, 21, 4, 4, 96, 54, 5, 21, 5, 21, 4, 162, 0, 27, 43, 28, 21, 5, 96, 51, 42]
abbrev dktX14_isAt_1 : List UInt8 := dkwX14_isAt_1 ++ dktX14_isAt_2
def dkwX14_isAt_0 : List UInt8 := [42, 180, 0, 80, 182, 0, 84, 54, 4, 21, 4, 158, 0, 15, 29, 28, 100, 21, 4, 160, 0, 7, 3]
abbrev dktX14_isAt_0 : List UInt8 := dkwX14_isAt_0 ++ dktX14_isAt_1
theorem dksX14_isAt_0 : cX14_isAt.data.toList.drop 0 = dktX14_isAt_0 := by decide +kernel
theorem dksX14_isAt_1 : cX14_isAt.data.toList.drop 23 = dktX14_isAt_1 := dk_seg dksX14_isAt_0 23 rfl rfl
theorem dksX14_isAt_2 : cX14_isAt.data.toList.drop 46 = dktX14_isAt_2 := dk_seg dksX14_isAt_1 23 rfl rfl
theorem dksX14_isAt_3 : cX14_isAt.data.toList.drop 70 = dktX14_isAt_3 := dk_seg dksX14_isAt_2 24 rfl rfl
theorem dX14_isAt_0 : decode cX14_isAt 0 = .ok (.aload_n 0, 1) := dk_42 (dk_at dksX14_isAt_0 0 rfl rfl)
theorem dX14_isAt_1 : decode cX14_isAt 1 = .ok (.getfield 80, 3) := dk_180 0 80 (dk_at dksX14_isAt_0 1 rfl rfl)
theorem dX14_isAt_4 : decode cX14_isAt 4 = .ok (.invokevirtual 84, 3) := dk_182 0 84 (dk_at dksX14_isAt_0 4 rfl rfl)
theorem dX14_isAt_7 : decode cX14_isAt 7 = .ok (.istore 4, 2) := dk_54 4 (dk_at dksX14_isAt_0 7 rfl rfl)
theorem dX14_isAt_9 : decode cX14_isAt 9 = .ok (.iload 4, 2) := dk_21 4 (dk_at dksX14_isAt_0 9 rfl rfl)
theorem dX14_isAt_11 : decode cX14_isAt 11 = .ok (.ifCond .le 15, 3) := dk_158 0 15 (dk_at dksX14_isAt_0 11 rfl rfl)
theorem dX14_isAt_14 : decode cX14_isAt 14 = .ok (.iload_n 3, 1) := dk_29 (dk_at dksX14_isAt_0 14 rfl rfl)
theorem dX14_isAt_15 : decode cX14_isAt 15 = .ok (.iload_n 2, 1) := dk_28 (dk_at dksX14_isAt_0 15 rfl rfl)
theorem dX14_isAt_16 : decode cX14_isAt 16 = .ok (.isub, 1) := dk_100 (dk_at dksX14_isAt_0 16 rfl rfl)
theorem dX14_isAt_17 : decode cX14_isAt 17 = .ok (.iload 4, 2) := dk_21 4 (dk_at dksX14_isAt_0 17 rfl rfl)
theorem dX14_isAt_19 : decode cX14_isAt 19 = .ok (.if_icmp .ne 7, 3) := dk_160 0 7 (dk_at dksX14_isAt_0 19 rfl rfl)
theorem dX14_isAt_22 : decode cX14_isAt 22 = .ok (.iconst 0, 1) := dk_3 (dk_at dksX14_isAt_0 22 rfl rfl)
theorem dX14_isAt_23 : decode cX14_isAt 23 = .ok (.goto 7, 3) := dk_167 0 7 (dk_at dksX14_isAt_1 0 rfl rfl)
theorem dX14_isAt_26 : decode cX14_isAt 26 = .ok (.iload 4, 2) := dk_21 4 (dk_at dksX14_isAt_1 3 rfl rfl)
theorem dX14_isAt_28 : decode cX14_isAt 28 = .ok (.iconst 1, 1) := dk_4 (dk_at dksX14_isAt_1 5 rfl rfl)
theorem dX14_isAt_29 : decode cX14_isAt 29 = .ok (.iadd, 1) := dk_96 (dk_at dksX14_isAt_1 6 rfl rfl)
theorem dX14_isAt_30 : decode cX14_isAt 30 = .ok (.istore 5, 2) := dk_54 5 (dk_at dksX14_isAt_1 7 rfl rfl)
theorem dX14_isAt_32 : decode cX14_isAt 32 = .ok (.iload 5, 2) := dk_21 5 (dk_at dksX14_isAt_1 9 rfl rfl)
theorem dX14_isAt_34 : decode cX14_isAt 34 = .ok (.iload 4, 2) := dk_21 4 (dk_at dksX14_isAt_1 11 rfl rfl)
theorem dX14_isAt_36 : decode cX14_isAt 36 = .ok (.if_icmp .ge 27, 3) := dk_162 0 27 (dk_at dksX14_isAt_1 13 rfl rfl)
theorem dX14_isAt_39 : decode cX14_isAt 39 = .ok (.aload_n 1, 1) := dk_43 (dk_at dksX14_isAt_1 16 rfl rfl)
theorem dX14_isAt_40 : decode cX14_isAt 40 = .ok (.iload_n 2, 1) := dk_28 (dk_at dksX14_isAt_1 17 rfl rfl)
theorem dX14_isAt_41 : decode cX14_isAt 41 = .ok (.iload 5, 2) := dk_21 5 (dk_at dksX14_isAt_1 18 rfl rfl)
theorem dX14_isAt_43 : decode cX14_isAt 43 = .ok (.iadd, 1) := dk_96 (dk_at dksX14_isAt_1 20 rfl rfl)
theorem dX14_isAt_44 : decode cX14_isAt 44 = .ok (.baload, 1) := dk_51 (dk_at dksX14_isAt_1 21 rfl rfl)
theorem dX14_isAt_45 : decode cX14_isAt 45 = .ok (.aload_n 0, 1) := dk_42 (dk_at dksX14_isAt_1 22 rfl rfl)
theorem dX14_isAt_46 : decode cX14_isAt 46 = .ok (.getfield 80, 3) := dk_180 0 80 (dk_at dksX14_isAt_2 0 rfl rfl)
theorem dX14_isAt_49 : decode cX14_isAt 49 = .ok (.iload 5, 2) := dk_21 5 (dk_at dksX14_isAt_2 3 rfl rfl)
theorem dX14_isAt_51 : decode cX14_isAt 51 = .ok (.invokevirtual 90, 3) := dk_182 0 90 (dk_at dksX14_isAt_2 5 rfl rfl)
theorem dX14_isAt_54 : decode cX14_isAt 54 = .ok (.if_icmp .ne 9, 3) := dk_160 0 9 (dk_at dksX14_isAt_2 8 rfl rfl)
theorem dX14_isAt_57 : decode cX14_isAt 57 = .ok (.iinc 5 1, 3) := dk_132 5 1 (dk_at dksX14_isAt_2 11 rfl rfl)
theorem dX14_isAt_60 : decode cX14_isAt 60 = .ok (.goto (-28), 3) := dk_167 255 228 (dk_at dksX14_isAt_2 14 rfl rfl)
theorem dX14_isAt_63 : decode cX14_isAt 63 = .ok (.iload 5, 2) := dk_21 5 (dk_at dksX14_isAt_2 17 rfl rfl)
theorem dX14_isAt_65 : decode cX14_isAt 65 = .ok (.iload 4, 2) := dk_21 4 (dk_at dksX14_isAt_2 19 rfl rfl)
theorem dX14_isAt_67 : decode cX14_isAt 67 = .ok (.if_icmp .ne 7, 3) := dk_160 0 7 (dk_at dksX14_isAt_2 21 rfl rfl)
theorem dX14_isAt_70 : decode cX14_isAt 70 = .ok (.iconst 1, 1) := dk_4 (dk_at dksX14_isAt_3 0 rfl rfl)
theorem dX14_isAt_71 : decode cX14_isAt 71 = .ok (.goto 4, 3) := dk_167 0 4 (dk_at dksX14_isAt_3 1 rfl rfl)
theorem dX14_isAt_74 : decode cX14_isAt 74 = .ok (.iconst 0, 1) := dk_3 (dk_at dksX14_isAt_3 4 rfl rfl)
theorem dX14_isAt_75 : decode cX14_isAt 75 = .ok (.ireturn, 1) := dk_172 (dk_at dksX14_isAt_3 5 rfl rfl)
theorem q413 : (Jvm.Cond.initialized "WasteHouse$HazardRules$Word") ∈ lw_all := lw_g (lw_at lw_m1 21 rfl) rfl
theorem q930 : (Jvm.Cond.static ({ cls := "WasteHouse$HazardRules$Word", name := "values", desc := "()[LWasteHouse$HazardRules$Word;" } : Jvm.MethodName)) ∈ lw_all := lw_g (lw_at lw_m3 58 rfl) rfl
theorem q931 : (Jvm.Cond.code ({ cls := "WasteHouse$HazardRules$Word", name := "values", desc := "()[LWasteHouse$HazardRules$Word;" } : Jvm.MethodName) prog_22_method_1_code (0 : Nat) (Option.some (Jvm.ClassFile.FieldType.array (Jvm.ClassFile.FieldType.object "WasteHouse$HazardRules$Word")))) ∈ lw_all := lw_g (lw_at lw_m3 59 rfl) rfl
theorem q932 : (Jvm.Cond.fieldLink "WasteHouse$HazardRules$Word" (61 : Nat) "WasteHouse$HazardRules$Word" "$VALUES" "[LWasteHouse$HazardRules$Word;") ∈ lw_all := lw_g (lw_at lw_m3 60 rfl) rfl
theorem q933 : (Jvm.Cond.laysStatic "WasteHouse$HazardRules$Word" "$VALUES" "[LWasteHouse$HazardRules$Word;") ∈ lw_tbl := lw_at lw_m3 61 rfl
theorem q934 : (Jvm.Cond.methodLink "WasteHouse$HazardRules$Word" (65 : Nat) ({ cls := "[LWasteHouse$HazardRules$Word;", name := "clone", desc := "()Ljava/lang/Object;" } : Jvm.MethodName)) ∈ lw_all := lw_g (lw_at lw_m3 62 rfl) rfl
theorem q940 : (Jvm.Cond.classLink "WasteHouse$HazardRules$Word" (66 : Nat) "[LWasteHouse$HazardRules$Word;") ∈ lw_all := lw_g (lw_at lw_m3 68 rfl) rfl
theorem q1992 : (Jvm.Cond.selects "WasteHouse$HazardRules$Word" ({ cls := "java/lang/Object", name := "getClass", desc := "()Ljava/lang/Class;" } : Jvm.MethodName) ({ cls := "java/lang/Object", name := "getClass", desc := "()Ljava/lang/Class;" } : Jvm.MethodName)) ∈ lw_all := lw_g (lw_at lw_m7 160 rfl) rfl
theorem q3100 : (Jvm.Cond.selects "WasteHouse$HazardRules$Word" ({ cls := "java/lang/Object", name := "equals", desc := "(Ljava/lang/Object;)Z" } : Jvm.MethodName) ({ cls := "java/lang/Enum", name := "equals", desc := "(Ljava/lang/Object;)Z" } : Jvm.MethodName)) ∈ lw_all := lw_g (lw_at lw_m12 68 rfl) rfl
theorem q3615 : (Jvm.Cond.selects "WasteHouse$HazardRules$Word" ({ cls := "java/lang/Object", name := "hashCode", desc := "()I" } : Jvm.MethodName) ({ cls := "java/lang/Enum", name := "hashCode", desc := "()I" } : Jvm.MethodName)) ∈ lw_all := lw_g (lw_at lw_m14 103 rfl) rfl
theorem q3815 : (Jvm.Cond.castable "WasteHouse$HazardRules$Word" "java/lang/Comparable") ∈ lw_tbl := lw_at lw_m15 63 rfl
theorem q3816 : (Jvm.Cond.selects "WasteHouse$HazardRules$Word" ({ cls := "java/lang/Comparable", name := "compareTo", desc := "(Ljava/lang/Object;)I" } : Jvm.MethodName) ({ cls := "java/lang/Enum", name := "compareTo", desc := "(Ljava/lang/Object;)I" } : Jvm.MethodName)) ∈ lw_all := lw_g (lw_at lw_m15 64 rfl) rfl
theorem q3817 : (Jvm.Cond.unhidden "WasteHouse$HazardRules$Word" "compareTo" "(Ljava/lang/Object;)I") ∈ lw_tbl := lw_at lw_m15 65 rfl
theorem q3825 : (Jvm.Cond.selects "WasteHouse$HazardRules$Word" ({ cls := "java/lang/Enum", name := "compareTo", desc := "(Ljava/lang/Enum;)I" } : Jvm.MethodName) ({ cls := "java/lang/Enum", name := "compareTo", desc := "(Ljava/lang/Enum;)I" } : Jvm.MethodName)) ∈ lw_all := lw_g (lw_at lw_m15 73 rfl) rfl
theorem q3832 : (Jvm.Cond.selects "WasteHouse$HazardRules$Word" ({ cls := "java/lang/Enum", name := "getDeclaringClass", desc := "()Ljava/lang/Class;" } : Jvm.MethodName) ({ cls := "java/lang/Enum", name := "getDeclaringClass", desc := "()Ljava/lang/Class;" } : Jvm.MethodName)) ∈ lw_all := lw_g (lw_at lw_m15 80 rfl) rfl
theorem q4790 : (Jvm.Cond.laysStatic "WasteHouse$HazardRules$Word" "NUMBER" "LWasteHouse$HazardRules$Word;") ∈ lw_tbl := lw_at lw_m19 78 rfl
theorem q4792 : (Jvm.Cond.laysStatic "WasteHouse$HazardRules$Word" "OTHER" "LWasteHouse$HazardRules$Word;") ∈ lw_tbl := lw_at lw_m19 80 rfl
theorem q4794 : (Jvm.Cond.instanceMethod ({ cls := "WasteHouse$HazardRules$Word", name := "isAt", desc := "([BII)Z" } : Jvm.MethodName)) ∈ lw_all := lw_g (lw_at lw_m19 82 rfl) rfl
theorem q4795 : (Jvm.Cond.selects "WasteHouse$HazardRules$Word" ({ cls := "WasteHouse$HazardRules$Word", name := "isAt", desc := "([BII)Z" } : Jvm.MethodName) ({ cls := "WasteHouse$HazardRules$Word", name := "isAt", desc := "([BII)Z" } : Jvm.MethodName)) ∈ lw_all := lw_g (lw_at lw_m19 83 rfl) rfl
theorem q4796 : (Jvm.Cond.code ({ cls := "WasteHouse$HazardRules$Word", name := "isAt", desc := "([BII)Z" } : Jvm.MethodName) prog_22_method_4_code (6 : Nat) (Option.some Jvm.ClassFile.FieldType.boolean)) ∈ lw_all := lw_g (lw_at lw_m19 84 rfl) rfl
theorem q4797 : (Jvm.Cond.methodLink "WasteHouse$HazardRules$Word" (84 : Nat) ({ cls := "java/lang/String", name := "length", desc := "()I" } : Jvm.MethodName)) ∈ lw_all := lw_g (lw_at lw_m19 85 rfl) rfl
theorem q4798 : (Jvm.Cond.methodLink "WasteHouse$HazardRules$Word" (90 : Nat) ({ cls := "java/lang/String", name := "charAt", desc := "(I)C" } : Jvm.MethodName)) ∈ lw_all := lw_g (lw_at lw_m19 86 rfl) rfl
theorem q4812 : (Jvm.Cond.laysStatic "WasteHouse$HazardRules$Word" "FROM" "LWasteHouse$HazardRules$Word;") ∈ lw_tbl := lw_at lw_m19 100 rfl
theorem q4833 : (Jvm.Cond.laysStatic "WasteHouse$HazardRules$Word" "CLASS" "LWasteHouse$HazardRules$Word;") ∈ lw_tbl := lw_at lw_m19 121 rfl
theorem q4839 : (Jvm.Cond.laysStatic "WasteHouse$HazardRules$Word" "WHEN" "LWasteHouse$HazardRules$Word;") ∈ lw_tbl := lw_at lw_m19 127 rfl
theorem q4845 : (Jvm.Cond.laysStatic "WasteHouse$HazardRules$Word" "TEST" "LWasteHouse$HazardRules$Word;") ∈ lw_tbl := lw_at lw_m19 133 rfl
theorem q4847 : (Jvm.Cond.laysStatic "WasteHouse$HazardRules$Word" "IS" "LWasteHouse$HazardRules$Word;") ∈ lw_tbl := lw_at lw_m19 135 rfl
theorem q4849 : (Jvm.Cond.laysStatic "WasteHouse$HazardRules$Word" "NOT" "LWasteHouse$HazardRules$Word;") ∈ lw_tbl := lw_at lw_m19 137 rfl
theorem q4851 : (Jvm.Cond.laysStatic "WasteHouse$HazardRules$Word" "HOLDS" "LWasteHouse$HazardRules$Word;") ∈ lw_tbl := lw_at lw_m19 139 rfl
theorem q4853 : (Jvm.Cond.laysStatic "WasteHouse$HazardRules$Word" "SUM" "LWasteHouse$HazardRules$Word;") ∈ lw_tbl := lw_at lw_m19 141 rfl
theorem q4859 : (Jvm.Cond.laysStatic "WasteHouse$HazardRules$Word" "MINUS" "LWasteHouse$HazardRules$Word;") ∈ lw_tbl := lw_at lw_m19 147 rfl
theorem q4861 : (Jvm.Cond.laysStatic "WasteHouse$HazardRules$Word" "PLUS" "LWasteHouse$HazardRules$Word;") ∈ lw_tbl := lw_at lw_m19 149 rfl
theorem q4863 : (Jvm.Cond.laysStatic "WasteHouse$HazardRules$Word" "OF" "LWasteHouse$HazardRules$Word;") ∈ lw_tbl := lw_at lw_m19 151 rfl
theorem q4865 : (Jvm.Cond.laysStatic "WasteHouse$HazardRules$Word" "CUT" "LWasteHouse$HazardRules$Word;") ∈ lw_tbl := lw_at lw_m19 153 rfl
theorem q4867 : (Jvm.Cond.laysStatic "WasteHouse$HazardRules$Word" "BY" "LWasteHouse$HazardRules$Word;") ∈ lw_tbl := lw_at lw_m19 155 rfl
theorem q4869 : (Jvm.Cond.laysStatic "WasteHouse$HazardRules$Word" "OVER" "LWasteHouse$HazardRules$Word;") ∈ lw_tbl := lw_at lw_m19 157 rfl
theorem q4871 : (Jvm.Cond.laysStatic "WasteHouse$HazardRules$Word" "UNDER" "LWasteHouse$HazardRules$Word;") ∈ lw_tbl := lw_at lw_m19 159 rfl
theorem q4873 : (Jvm.Cond.laysStatic "WasteHouse$HazardRules$Word" "AND" "LWasteHouse$HazardRules$Word;") ∈ lw_tbl := lw_at lw_m19 161 rfl
theorem q4875 : (Jvm.Cond.laysStatic "WasteHouse$HazardRules$Word" "END" "LWasteHouse$HazardRules$Word;") ∈ lw_tbl := lw_at lw_m19 163 rfl
theorem q9606 : (Jvm.Cond.castable "WasteHouse$HazardRules$Word" "java/lang/Enum") ∈ lw_tbl := lw_at lw_m39 94 rfl
theorem q9620 : (Jvm.Cond.castable "WasteHouse$HazardRules$Word" "java/lang/Object") ∈ lw_tbl := lw_at lw_m39 108 rfl
theorem q9731 : (Jvm.Cond.fieldLink "WasteHouse$HazardRules$Word" (80 : Nat) "WasteHouse$HazardRules$Word" "text" "Ljava/lang/String;") ∈ lw_all := lw_g (lw_at lw_m39 219 rfl) rfl
theorem q9734 : (Jvm.Cond.stringRef "WasteHouse$HazardRules$Word" (149 : Nat) "") ∈ lw_tbl := lw_at lw_m39 222 rfl
theorem q9735 : (Jvm.Cond.stringRef "WasteHouse$HazardRules$Word" (95 : Nat) "from") ∈ lw_tbl := lw_at lw_m39 223 rfl
theorem q9736 : (Jvm.Cond.stringRef "WasteHouse$HazardRules$Word" (101 : Nat) "class") ∈ lw_tbl := lw_at lw_m39 224 rfl
theorem q9737 : (Jvm.Cond.stringRef "WasteHouse$HazardRules$Word" (104 : Nat) "when") ∈ lw_tbl := lw_at lw_m39 225 rfl
theorem q9738 : (Jvm.Cond.stringRef "WasteHouse$HazardRules$Word" (113 : Nat) "test") ∈ lw_tbl := lw_at lw_m39 226 rfl
theorem q9739 : (Jvm.Cond.stringRef "WasteHouse$HazardRules$Word" (116 : Nat) "is") ∈ lw_tbl := lw_at lw_m39 227 rfl
theorem q9740 : (Jvm.Cond.stringRef "WasteHouse$HazardRules$Word" (119 : Nat) "not") ∈ lw_tbl := lw_at lw_m39 228 rfl
theorem q9741 : (Jvm.Cond.stringRef "WasteHouse$HazardRules$Word" (122 : Nat) "holds") ∈ lw_tbl := lw_at lw_m39 229 rfl
theorem q9742 : (Jvm.Cond.stringRef "WasteHouse$HazardRules$Word" (125 : Nat) "sum") ∈ lw_tbl := lw_at lw_m39 230 rfl
theorem q9743 : (Jvm.Cond.stringRef "WasteHouse$HazardRules$Word" (137 : Nat) "minus") ∈ lw_tbl := lw_at lw_m39 231 rfl
theorem q9744 : (Jvm.Cond.stringRef "WasteHouse$HazardRules$Word" (134 : Nat) "plus") ∈ lw_tbl := lw_at lw_m39 232 rfl
theorem q9745 : (Jvm.Cond.stringRef "WasteHouse$HazardRules$Word" (140 : Nat) "of") ∈ lw_tbl := lw_at lw_m39 233 rfl
theorem q9746 : (Jvm.Cond.stringRef "WasteHouse$HazardRules$Word" (143 : Nat) "cut") ∈ lw_tbl := lw_at lw_m39 234 rfl
theorem q9747 : (Jvm.Cond.stringRef "WasteHouse$HazardRules$Word" (146 : Nat) "by") ∈ lw_tbl := lw_at lw_m39 235 rfl
theorem q9748 : (Jvm.Cond.stringRef "WasteHouse$HazardRules$Word" (128 : Nat) "over") ∈ lw_tbl := lw_at lw_m39 236 rfl
theorem q9749 : (Jvm.Cond.stringRef "WasteHouse$HazardRules$Word" (131 : Nat) "under") ∈ lw_tbl := lw_at lw_m39 237 rfl
theorem q9750 : (Jvm.Cond.stringRef "WasteHouse$HazardRules$Word" (110 : Nat) "and") ∈ lw_tbl := lw_at lw_m39 238 rfl
theorem q9751 : (Jvm.Cond.stringRef "WasteHouse$HazardRules$Word" (107 : Nat) "end") ∈ lw_tbl := lw_at lw_m39 239 rfl
