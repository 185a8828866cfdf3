/-! java/lang/Enum -/
set_option maxRecDepth 100000
def RJ6 : String := "java/lang/Enum"
abbrev cJ6_equals : ByteArray := prog_73_method_5_code
def yJ6_equals : MethodName := ⟨RJ6, "equals", "(Ljava/lang/Object;)Z"⟩
def dkwJ6_equals_0 : List UInt8 := [42, 43, 166, 0, 7, 4, 167, 0, 4, 3, 172]
abbrev dktJ6_equals_0 : List UInt8 := dkwJ6_equals_0 ++ []
theorem dksJ6_equals_0 : cJ6_equals.data.toList.drop 0 = dktJ6_equals_0 := by decide +kernel
theorem dJ6_equals_0 : decode cJ6_equals 0 = .ok (.aload_n 0, 1) := dk_42 (dk_at dksJ6_equals_0 0 rfl rfl)
theorem dJ6_equals_1 : decode cJ6_equals 1 = .ok (.aload_n 1, 1) := dk_43 (dk_at dksJ6_equals_0 1 rfl rfl)
theorem dJ6_equals_2 : decode cJ6_equals 2 = .ok (.if_acmp .ne 7, 3) := dk_166 0 7 (dk_at dksJ6_equals_0 2 rfl rfl)
theorem dJ6_equals_5 : decode cJ6_equals 5 = .ok (.iconst 1, 1) := dk_4 (dk_at dksJ6_equals_0 5 rfl rfl)
theorem dJ6_equals_6 : decode cJ6_equals 6 = .ok (.goto 4, 3) := dk_167 0 4 (dk_at dksJ6_equals_0 6 rfl rfl)
theorem dJ6_equals_9 : decode cJ6_equals 9 = .ok (.iconst 0, 1) := dk_3 (dk_at dksJ6_equals_0 9 rfl rfl)
theorem dJ6_equals_10 : decode cJ6_equals 10 = .ok (.ireturn, 1) := dk_172 (dk_at dksJ6_equals_0 10 rfl rfl)
abbrev cJ6_hashCode : ByteArray := prog_73_method_6_code
def yJ6_hashCode : MethodName := ⟨RJ6, "hashCode", "()I"⟩
def dkwJ6_hashCode_0 : List UInt8 := [42, 180, 0, 17, 60, 27, 154, 0, 13, 42, 42, 184, 0, 20, 90, 181, 0, 17, 60, 27, 172]
abbrev dktJ6_hashCode_0 : List UInt8 := dkwJ6_hashCode_0 ++ []
theorem dksJ6_hashCode_0 : cJ6_hashCode.data.toList.drop 0 = dktJ6_hashCode_0 := by decide +kernel
theorem dJ6_hashCode_0 : decode cJ6_hashCode 0 = .ok (.aload_n 0, 1) := dk_42 (dk_at dksJ6_hashCode_0 0 rfl rfl)
theorem dJ6_hashCode_1 : decode cJ6_hashCode 1 = .ok (.getfield 17, 3) := dk_180 0 17 (dk_at dksJ6_hashCode_0 1 rfl rfl)
theorem dJ6_hashCode_4 : decode cJ6_hashCode 4 = .ok (.istore_n 1, 1) := dk_60 (dk_at dksJ6_hashCode_0 4 rfl rfl)
theorem dJ6_hashCode_5 : decode cJ6_hashCode 5 = .ok (.iload_n 1, 1) := dk_27 (dk_at dksJ6_hashCode_0 5 rfl rfl)
theorem dJ6_hashCode_6 : decode cJ6_hashCode 6 = .ok (.ifCond .ne 13, 3) := dk_154 0 13 (dk_at dksJ6_hashCode_0 6 rfl rfl)
theorem dJ6_hashCode_9 : decode cJ6_hashCode 9 = .ok (.aload_n 0, 1) := dk_42 (dk_at dksJ6_hashCode_0 9 rfl rfl)
theorem dJ6_hashCode_10 : decode cJ6_hashCode 10 = .ok (.aload_n 0, 1) := dk_42 (dk_at dksJ6_hashCode_0 10 rfl rfl)
theorem dJ6_hashCode_11 : decode cJ6_hashCode 11 = .ok (.invokestatic 20, 3) := dk_184 0 20 (dk_at dksJ6_hashCode_0 11 rfl rfl)
theorem dJ6_hashCode_14 : decode cJ6_hashCode 14 = .ok (.dup_x1, 1) := dk_90 (dk_at dksJ6_hashCode_0 14 rfl rfl)
theorem dJ6_hashCode_15 : decode cJ6_hashCode 15 = .ok (.putfield 17, 3) := dk_181 0 17 (dk_at dksJ6_hashCode_0 15 rfl rfl)
theorem dJ6_hashCode_18 : decode cJ6_hashCode 18 = .ok (.istore_n 1, 1) := dk_60 (dk_at dksJ6_hashCode_0 18 rfl rfl)
theorem dJ6_hashCode_19 : decode cJ6_hashCode 19 = .ok (.iload_n 1, 1) := dk_27 (dk_at dksJ6_hashCode_0 19 rfl rfl)
theorem dJ6_hashCode_20 : decode cJ6_hashCode 20 = .ok (.ireturn, 1) := dk_172 (dk_at dksJ6_hashCode_0 20 rfl rfl)
abbrev cJ6_compareTo : ByteArray := prog_73_method_15_code
def yJ6_compareTo : MethodName := ⟨RJ6, "compareTo", "(Ljava/lang/Object;)I"⟩
def dkwJ6_compareTo_0 : List UInt8 := [42, 43, 192, 0, 2, 182, 0, 101, 172]
abbrev dktJ6_compareTo_0 : List UInt8 := dkwJ6_compareTo_0 ++ []
theorem dksJ6_compareTo_0 : cJ6_compareTo.data.toList.drop 0 = dktJ6_compareTo_0 := by decide +kernel
theorem dJ6_compareTo_0 : decode cJ6_compareTo 0 = .ok (.aload_n 0, 1) := dk_42 (dk_at dksJ6_compareTo_0 0 rfl rfl)
theorem dJ6_compareTo_1 : decode cJ6_compareTo 1 = .ok (.aload_n 1, 1) := dk_43 (dk_at dksJ6_compareTo_0 1 rfl rfl)
theorem dJ6_compareTo_2 : decode cJ6_compareTo 2 = .ok (.checkcast 2, 3) := dk_192 0 2 (dk_at dksJ6_compareTo_0 2 rfl rfl)
theorem dJ6_compareTo_5 : decode cJ6_compareTo 5 = .ok (.invokevirtual 101, 3) := dk_182 0 101 (dk_at dksJ6_compareTo_0 5 rfl rfl)
theorem dJ6_compareTo_8 : decode cJ6_compareTo 8 = .ok (.ireturn, 1) := dk_172 (dk_at dksJ6_compareTo_0 8 rfl rfl)
abbrev cJ6_compareTo_2 : ByteArray := prog_73_method_8_code
def yJ6_compareTo_2 : MethodName := ⟨RJ6, "compareTo", "(Ljava/lang/Enum;)I"⟩
def dkwJ6_compareTo_2_1 : List UInt8 := [165, 0, 11, 187, 0, 36, 89, 183, 0, 38, 191, 45, 180, 0, 7, 44, 180, 0, 7, 100, 172]
abbrev dktJ6_compareTo_2_1 : List UInt8 := dkwJ6_compareTo_2_1 ++ []
def dkwJ6_compareTo_2_0 : List UInt8 := [43, 77, 42, 78, 45, 182, 0, 29, 44, 182, 0, 29, 165, 0, 22, 45, 182, 0, 33, 44, 182, 0, 33]
abbrev dktJ6_compareTo_2_0 : List UInt8 := dkwJ6_compareTo_2_0 ++ dktJ6_compareTo_2_1
theorem dksJ6_compareTo_2_0 : cJ6_compareTo_2.data.toList.drop 0 = dktJ6_compareTo_2_0 := by decide +kernel
theorem dksJ6_compareTo_2_1 : cJ6_compareTo_2.data.toList.drop 23 = dktJ6_compareTo_2_1 := dk_seg dksJ6_compareTo_2_0 23 rfl rfl
theorem dJ6_compareTo_2_0 : decode cJ6_compareTo_2 0 = .ok (.aload_n 1, 1) := dk_43 (dk_at dksJ6_compareTo_2_0 0 rfl rfl)
theorem dJ6_compareTo_2_1 : decode cJ6_compareTo_2 1 = .ok (.astore_n 2, 1) := dk_77 (dk_at dksJ6_compareTo_2_0 1 rfl rfl)
theorem dJ6_compareTo_2_2 : decode cJ6_compareTo_2 2 = .ok (.aload_n 0, 1) := dk_42 (dk_at dksJ6_compareTo_2_0 2 rfl rfl)
theorem dJ6_compareTo_2_3 : decode cJ6_compareTo_2 3 = .ok (.astore_n 3, 1) := dk_78 (dk_at dksJ6_compareTo_2_0 3 rfl rfl)
theorem dJ6_compareTo_2_4 : decode cJ6_compareTo_2 4 = .ok (.aload_n 3, 1) := dk_45 (dk_at dksJ6_compareTo_2_0 4 rfl rfl)
theorem dJ6_compareTo_2_5 : decode cJ6_compareTo_2 5 = .ok (.invokevirtual 29, 3) := dk_182 0 29 (dk_at dksJ6_compareTo_2_0 5 rfl rfl)
theorem dJ6_compareTo_2_8 : decode cJ6_compareTo_2 8 = .ok (.aload_n 2, 1) := dk_44 (dk_at dksJ6_compareTo_2_0 8 rfl rfl)
theorem dJ6_compareTo_2_9 : decode cJ6_compareTo_2 9 = .ok (.invokevirtual 29, 3) := dk_182 0 29 (dk_at dksJ6_compareTo_2_0 9 rfl rfl)
theorem dJ6_compareTo_2_12 : decode cJ6_compareTo_2 12 = .ok (.if_acmp .eq 22, 3) := dk_165 0 22 (dk_at dksJ6_compareTo_2_0 12 rfl rfl)
theorem dJ6_compareTo_2_15 : decode cJ6_compareTo_2 15 = .ok (.aload_n 3, 1) := dk_45 (dk_at dksJ6_compareTo_2_0 15 rfl rfl)
theorem dJ6_compareTo_2_16 : decode cJ6_compareTo_2 16 = .ok (.invokevirtual 33, 3) := dk_182 0 33 (dk_at dksJ6_compareTo_2_0 16 rfl rfl)
theorem dJ6_compareTo_2_19 : decode cJ6_compareTo_2 19 = .ok (.aload_n 2, 1) := dk_44 (dk_at dksJ6_compareTo_2_0 19 rfl rfl)
theorem dJ6_compareTo_2_20 : decode cJ6_compareTo_2 20 = .ok (.invokevirtual 33, 3) := dk_182 0 33 (dk_at dksJ6_compareTo_2_0 20 rfl rfl)
theorem dJ6_compareTo_2_23 : decode cJ6_compareTo_2 23 = .ok (.if_acmp .eq 11, 3) := dk_165 0 11 (dk_at dksJ6_compareTo_2_1 0 rfl rfl)
theorem dJ6_compareTo_2_26 : decode cJ6_compareTo_2 26 = .ok (.new 36, 3) := dk_187 0 36 (dk_at dksJ6_compareTo_2_1 3 rfl rfl)
theorem dJ6_compareTo_2_29 : decode cJ6_compareTo_2 29 = .ok (.dup, 1) := dk_89 (dk_at dksJ6_compareTo_2_1 6 rfl rfl)
theorem dJ6_compareTo_2_30 : decode cJ6_compareTo_2 30 = .ok (.invokespecial 38, 3) := dk_183 0 38 (dk_at dksJ6_compareTo_2_1 7 rfl rfl)
theorem dJ6_compareTo_2_33 : decode cJ6_compareTo_2 33 = .ok (.athrow, 1) := dk_191 (dk_at dksJ6_compareTo_2_1 10 rfl rfl)
theorem dJ6_compareTo_2_34 : decode cJ6_compareTo_2 34 = .ok (.aload_n 3, 1) := dk_45 (dk_at dksJ6_compareTo_2_1 11 rfl rfl)
theorem dJ6_compareTo_2_35 : decode cJ6_compareTo_2 35 = .ok (.getfield 7, 3) := dk_180 0 7 (dk_at dksJ6_compareTo_2_1 12 rfl rfl)
theorem dJ6_compareTo_2_38 : decode cJ6_compareTo_2 38 = .ok (.aload_n 2, 1) := dk_44 (dk_at dksJ6_compareTo_2_1 15 rfl rfl)
theorem dJ6_compareTo_2_39 : decode cJ6_compareTo_2 39 = .ok (.getfield 7, 3) := dk_180 0 7 (dk_at dksJ6_compareTo_2_1 16 rfl rfl)
theorem dJ6_compareTo_2_42 : decode cJ6_compareTo_2 42 = .ok (.isub, 1) := dk_100 (dk_at dksJ6_compareTo_2_1 19 rfl rfl)
theorem dJ6_compareTo_2_43 : decode cJ6_compareTo_2 43 = .ok (.ireturn, 1) := dk_172 (dk_at dksJ6_compareTo_2_1 20 rfl rfl)
abbrev cJ6_getDeclaringClass : ByteArray := prog_73_method_9_code
def yJ6_getDeclaringClass : MethodName := ⟨RJ6, "getDeclaringClass", "()Ljava/lang/Class;"⟩
def dkwJ6_getDeclaringClass_0 : List UInt8 := [42, 182, 0, 29, 76, 43, 182, 0, 39, 77, 44, 18, 2, 166, 0, 7, 43, 167, 0, 4, 44, 176]
abbrev dktJ6_getDeclaringClass_0 : List UInt8 := dkwJ6_getDeclaringClass_0 ++ []
theorem dksJ6_getDeclaringClass_0 : cJ6_getDeclaringClass.data.toList.drop 0 = dktJ6_getDeclaringClass_0 := by decide +kernel
theorem dJ6_getDeclaringClass_0 : decode cJ6_getDeclaringClass 0 = .ok (.aload_n 0, 1) := dk_42 (dk_at dksJ6_getDeclaringClass_0 0 rfl rfl)
theorem dJ6_getDeclaringClass_1 : decode cJ6_getDeclaringClass 1 = .ok (.invokevirtual 29, 3) := dk_182 0 29 (dk_at dksJ6_getDeclaringClass_0 1 rfl rfl)
theorem dJ6_getDeclaringClass_4 : decode cJ6_getDeclaringClass 4 = .ok (.astore_n 1, 1) := dk_76 (dk_at dksJ6_getDeclaringClass_0 4 rfl rfl)
theorem dJ6_getDeclaringClass_5 : decode cJ6_getDeclaringClass 5 = .ok (.aload_n 1, 1) := dk_43 (dk_at dksJ6_getDeclaringClass_0 5 rfl rfl)
theorem dJ6_getDeclaringClass_6 : decode cJ6_getDeclaringClass 6 = .ok (.invokevirtual 39, 3) := dk_182 0 39 (dk_at dksJ6_getDeclaringClass_0 6 rfl rfl)
theorem dJ6_getDeclaringClass_9 : decode cJ6_getDeclaringClass 9 = .ok (.astore_n 2, 1) := dk_77 (dk_at dksJ6_getDeclaringClass_0 9 rfl rfl)
theorem dJ6_getDeclaringClass_10 : decode cJ6_getDeclaringClass 10 = .ok (.aload_n 2, 1) := dk_44 (dk_at dksJ6_getDeclaringClass_0 10 rfl rfl)
theorem dJ6_getDeclaringClass_11 : decode cJ6_getDeclaringClass 11 = .ok (.ldc 2, 2) := dk_18 2 (dk_at dksJ6_getDeclaringClass_0 11 rfl rfl)
theorem dJ6_getDeclaringClass_13 : decode cJ6_getDeclaringClass 13 = .ok (.if_acmp .ne 7, 3) := dk_166 0 7 (dk_at dksJ6_getDeclaringClass_0 13 rfl rfl)
theorem dJ6_getDeclaringClass_16 : decode cJ6_getDeclaringClass 16 = .ok (.aload_n 1, 1) := dk_43 (dk_at dksJ6_getDeclaringClass_0 16 rfl rfl)
theorem dJ6_getDeclaringClass_17 : decode cJ6_getDeclaringClass 17 = .ok (.goto 4, 3) := dk_167 0 4 (dk_at dksJ6_getDeclaringClass_0 17 rfl rfl)
theorem dJ6_getDeclaringClass_20 : decode cJ6_getDeclaringClass 20 = .ok (.aload_n 2, 1) := dk_44 (dk_at dksJ6_getDeclaringClass_0 20 rfl rfl)
theorem dJ6_getDeclaringClass_21 : decode cJ6_getDeclaringClass 21 = .ok (.areturn, 1) := dk_176 (dk_at dksJ6_getDeclaringClass_0 21 rfl rfl)
abbrev cJ6_ordinal : ByteArray := prog_73_method_2_code
def yJ6_ordinal : MethodName := ⟨RJ6, "ordinal", "()I"⟩
theorem dJ6_ordinal_0 : decode cJ6_ordinal 0 = .ok (.aload_n 0, 1) := by decide +kernel
theorem dJ6_ordinal_1 : decode cJ6_ordinal 1 = .ok (.getfield 7, 3) := by decide +kernel
theorem dJ6_ordinal_4 : decode cJ6_ordinal 4 = .ok (.ireturn, 1) := by decide +kernel
theorem q412 : (Jvm.Cond.initialized "java/lang/Enum") ∈ lw_all := lw_g (lw_at lw_m1 20 rfl) rfl
theorem q3101 : (Jvm.Cond.instanceMethod ({ cls := "java/lang/Enum", name := "equals", desc := "(Ljava/lang/Object;)Z" } : Jvm.MethodName)) ∈ lw_all := lw_g (lw_at lw_m12 69 rfl) rfl
theorem q3102 : (Jvm.Cond.code ({ cls := "java/lang/Enum", name := "equals", desc := "(Ljava/lang/Object;)Z" } : Jvm.MethodName) prog_73_method_5_code (2 : Nat) (Option.some Jvm.ClassFile.FieldType.boolean)) ∈ lw_all := lw_g (lw_at lw_m12 70 rfl) rfl
theorem q3616 : (Jvm.Cond.instanceMethod ({ cls := "java/lang/Enum", name := "hashCode", desc := "()I" } : Jvm.MethodName)) ∈ lw_all := lw_g (lw_at lw_m14 104 rfl) rfl
theorem q3617 : (Jvm.Cond.code ({ cls := "java/lang/Enum", name := "hashCode", desc := "()I" } : Jvm.MethodName) prog_73_method_6_code (2 : Nat) (Option.some Jvm.ClassFile.FieldType.int)) ∈ lw_all := lw_g (lw_at lw_m14 105 rfl) rfl
theorem q3618 : (Jvm.Cond.methodLink "java/lang/Enum" (20 : Nat) ({ cls := "java/lang/System", name := "identityHashCode", desc := "(Ljava/lang/Object;)I" } : Jvm.MethodName)) ∈ lw_all := lw_g (lw_at lw_m14 106 rfl) rfl
theorem q3818 : (Jvm.Cond.instanceMethod ({ cls := "java/lang/Enum", name := "compareTo", desc := "(Ljava/lang/Object;)I" } : Jvm.MethodName)) ∈ lw_all := lw_g (lw_at lw_m15 66 rfl) rfl
theorem q3819 : (Jvm.Cond.publicMethod ({ cls := "java/lang/Enum", name := "compareTo", desc := "(Ljava/lang/Object;)I" } : Jvm.MethodName)) ∈ lw_tbl := lw_at lw_m15 67 rfl
theorem q3820 : (Jvm.Cond.code ({ cls := "java/lang/Enum", name := "compareTo", desc := "(Ljava/lang/Object;)I" } : Jvm.MethodName) prog_73_method_15_code (2 : Nat) (Option.some Jvm.ClassFile.FieldType.int)) ∈ lw_all := lw_g (lw_at lw_m15 68 rfl) rfl
theorem q3821 : (Jvm.Cond.classLink "java/lang/Enum" (2 : Nat) "java/lang/Enum") ∈ lw_all := lw_g (lw_at lw_m15 69 rfl) rfl
theorem q3822 : (Jvm.Cond.methodLink "java/lang/Enum" (101 : Nat) ({ cls := "java/lang/Enum", name := "compareTo", desc := "(Ljava/lang/Enum;)I" } : Jvm.MethodName)) ∈ lw_all := lw_g (lw_at lw_m15 70 rfl) rfl
theorem q3823 : (Jvm.Cond.instanceMethod ({ cls := "java/lang/Enum", name := "compareTo", desc := "(Ljava/lang/Enum;)I" } : Jvm.MethodName)) ∈ lw_all := lw_g (lw_at lw_m15 71 rfl) rfl
theorem q3824 : (Jvm.Cond.sameMethod "java/lang/Enum" "java/lang/Enum" "compareTo" "(Ljava/lang/Enum;)I") ∈ lw_all := lw_g (lw_at lw_m15 72 rfl) rfl
theorem q3827 : (Jvm.Cond.code ({ cls := "java/lang/Enum", name := "compareTo", desc := "(Ljava/lang/Enum;)I" } : Jvm.MethodName) prog_73_method_8_code (4 : Nat) (Option.some Jvm.ClassFile.FieldType.int)) ∈ lw_all := lw_g (lw_at lw_m15 75 rfl) rfl
theorem q3828 : (Jvm.Cond.methodLink "java/lang/Enum" (29 : Nat) ({ cls := "java/lang/Object", name := "getClass", desc := "()Ljava/lang/Class;" } : Jvm.MethodName)) ∈ lw_all := lw_g (lw_at lw_m15 76 rfl) rfl
theorem q3829 : (Jvm.Cond.methodLink "java/lang/Enum" (33 : Nat) ({ cls := "java/lang/Enum", name := "getDeclaringClass", desc := "()Ljava/lang/Class;" } : Jvm.MethodName)) ∈ lw_all := lw_g (lw_at lw_m15 77 rfl) rfl
theorem q3830 : (Jvm.Cond.instanceMethod ({ cls := "java/lang/Enum", name := "getDeclaringClass", desc := "()Ljava/lang/Class;" } : Jvm.MethodName)) ∈ lw_all := lw_g (lw_at lw_m15 78 rfl) rfl
theorem q3831 : (Jvm.Cond.sameMethod "java/lang/Enum" "java/lang/Enum" "getDeclaringClass" "()Ljava/lang/Class;") ∈ lw_all := lw_g (lw_at lw_m15 79 rfl) rfl
theorem q3834 : (Jvm.Cond.code ({ cls := "java/lang/Enum", name := "getDeclaringClass", desc := "()Ljava/lang/Class;" } : Jvm.MethodName) prog_73_method_9_code (3 : Nat) (Option.some (Jvm.ClassFile.FieldType.object "java/lang/Class"))) ∈ lw_all := lw_g (lw_at lw_m15 82 rfl) rfl
theorem q5854 : (Jvm.Cond.declares ({ cls := "java/lang/Enum", name := "ordinal", desc := "()I" } : Jvm.MethodName)) ∈ lw_tbl := lw_at lw_m23 182 rfl
theorem q5856 : (Jvm.Cond.instanceMethod ({ cls := "java/lang/Enum", name := "ordinal", desc := "()I" } : Jvm.MethodName)) ∈ lw_all := lw_g (lw_at lw_m23 184 rfl) rfl
theorem q5857 : (Jvm.Cond.code ({ cls := "java/lang/Enum", name := "ordinal", desc := "()I" } : Jvm.MethodName) prog_73_method_2_code (1 : Nat) (Option.some Jvm.ClassFile.FieldType.int)) ∈ lw_all := lw_g (lw_at lw_m23 185 rfl) rfl
theorem q9729 : (Jvm.Cond.fieldLink "java/lang/Enum" (17 : Nat) "java/lang/Enum" "hash" "I") ∈ lw_all := lw_g (lw_at lw_m39 217 rfl) rfl
theorem q9730 : (Jvm.Cond.fieldLink "java/lang/Enum" (7 : Nat) "java/lang/Enum" "ordinal" "I") ∈ lw_all := lw_g (lw_at lw_m39 218 rfl) rfl
