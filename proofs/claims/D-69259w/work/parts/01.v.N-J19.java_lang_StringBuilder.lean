/-! java/lang/StringBuilder -/
set_option maxRecDepth 100000
def RJ19 : String := "java/lang/StringBuilder"
def TJ19 : u_T := fun k => match k with
  | 0 => ("java/lang/AbstractStringBuilder", "value", "[B", false)
  | 1 => ("java/lang/AbstractStringBuilder", "coder", "B", false)
  | 2 => ("java/lang/AbstractStringBuilder", "maybeLatin1", "Z", false)
  | _ => ("java/lang/AbstractStringBuilder", "count", "I", false)
def tyJ19 : Nat → FieldType := fun k => match k with
  | 0 => .array .byte
  | 1 => .byte
  | 2 => .boolean
  | _ => .int
abbrev wsJ190 : List Cond := u_ws RJ19 TJ19 4
theorem nmJ19 : ∀ a, a < 4 → ∀ b, b < 4 → a ≠ b → (TJ19 a).2.1 ≠ (TJ19 b).2.1 := by decide +kernel
theorem tyJ19_ok : ∀ k, k < 4 → parseFieldDescriptor (TJ19 k).2.2.1 = some (tyJ19 k) := by decide +kernel
abbrev cJ19_init : ByteArray := prog_87_method_1_code
def yJ19_init : MethodName := ⟨RJ19, "<init>", "()V"⟩
def dkwJ19_init_0 : List UInt8 := [42, 16, 16, 183, 0, 1, 177]
abbrev dktJ19_init_0 : List UInt8 := dkwJ19_init_0 ++ []
theorem dksJ19_init_0 : cJ19_init.data.toList.drop 0 = dktJ19_init_0 := by decide +kernel
theorem dJ19_init_0 : decode cJ19_init 0 = .ok (.aload_n 0, 1) := dk_42 (dk_at dksJ19_init_0 0 rfl rfl)
theorem dJ19_init_1 : decode cJ19_init 1 = .ok (.bipush 16, 2) := dk_16 16 (dk_at dksJ19_init_0 1 rfl rfl)
theorem dJ19_init_3 : decode cJ19_init 3 = .ok (.invokespecial 1, 3) := dk_183 0 1 (dk_at dksJ19_init_0 3 rfl rfl)
theorem dJ19_init_6 : decode cJ19_init 6 = .ok (.return_, 1) := dk_177 (dk_at dksJ19_init_0 6 rfl rfl)
abbrev cJ19_append : ByteArray := prog_87_method_14_code
def yJ19_append : MethodName := ⟨RJ19, "append", "(C)Ljava/lang/StringBuilder;"⟩
def dkwJ19_append_0 : List UInt8 := [42, 27, 183, 0, 50, 87, 42, 176]
abbrev dktJ19_append_0 : List UInt8 := dkwJ19_append_0 ++ []
theorem dksJ19_append_0 : cJ19_append.data.toList.drop 0 = dktJ19_append_0 := by decide +kernel
theorem dJ19_append_0 : decode cJ19_append 0 = .ok (.aload_n 0, 1) := dk_42 (dk_at dksJ19_append_0 0 rfl rfl)
theorem dJ19_append_1 : decode cJ19_append 1 = .ok (.iload_n 1, 1) := dk_27 (dk_at dksJ19_append_0 1 rfl rfl)
theorem dJ19_append_2 : decode cJ19_append 2 = .ok (.invokespecial 50, 3) := dk_183 0 50 (dk_at dksJ19_append_0 2 rfl rfl)
theorem dJ19_append_5 : decode cJ19_append 5 = .ok (.pop, 1) := dk_87 (dk_at dksJ19_append_0 5 rfl rfl)
theorem dJ19_append_6 : decode cJ19_append 6 = .ok (.aload_n 0, 1) := dk_42 (dk_at dksJ19_append_0 6 rfl rfl)
theorem dJ19_append_7 : decode cJ19_append 7 = .ok (.areturn, 1) := dk_176 (dk_at dksJ19_append_0 7 rfl rfl)
abbrev cJ19_toString : ByteArray := prog_87_method_42_code
def yJ19_toString : MethodName := ⟨RJ19, "toString", "()Ljava/lang/String;"⟩
def dkwJ19_toString_0 : List UInt8 := [187, 0, 18, 89, 42, 183, 0, 137, 176]
abbrev dktJ19_toString_0 : List UInt8 := dkwJ19_toString_0 ++ []
theorem dksJ19_toString_0 : cJ19_toString.data.toList.drop 0 = dktJ19_toString_0 := by decide +kernel
theorem dJ19_toString_0 : decode cJ19_toString 0 = .ok (.new 18, 3) := dk_187 0 18 (dk_at dksJ19_toString_0 0 rfl rfl)
theorem dJ19_toString_3 : decode cJ19_toString 3 = .ok (.dup, 1) := dk_89 (dk_at dksJ19_toString_0 3 rfl rfl)
theorem dJ19_toString_4 : decode cJ19_toString 4 = .ok (.aload_n 0, 1) := dk_42 (dk_at dksJ19_toString_0 4 rfl rfl)
theorem dJ19_toString_5 : decode cJ19_toString 5 = .ok (.invokespecial 137, 3) := dk_183 0 137 (dk_at dksJ19_toString_0 5 rfl rfl)
theorem dJ19_toString_8 : decode cJ19_toString 8 = .ok (.areturn, 1) := dk_176 (dk_at dksJ19_toString_0 8 rfl rfl)
abbrev cJ19_length : ByteArray := prog_87_method_93_code
def yJ19_length : MethodName := ⟨RJ19, "length", "()I"⟩
theorem dJ19_length_0 : decode cJ19_length 0 = .ok (.aload_n 0, 1) := by decide +kernel
theorem dJ19_length_1 : decode cJ19_length 1 = .ok (.invokespecial 343, 3) := by decide +kernel
theorem dJ19_length_4 : decode cJ19_length 4 = .ok (.ireturn, 1) := by decide +kernel
abbrev cJ19_append_2 : ByteArray := prog_87_method_15_code
def yJ19_append_2 : MethodName := ⟨RJ19, "append", "(I)Ljava/lang/StringBuilder;"⟩
def dkwJ19_append_2_0 : List UInt8 := [42, 27, 183, 0, 53, 87, 42, 176]
abbrev dktJ19_append_2_0 : List UInt8 := dkwJ19_append_2_0 ++ []
theorem dksJ19_append_2_0 : cJ19_append_2.data.toList.drop 0 = dktJ19_append_2_0 := by decide +kernel
theorem dJ19_append_2_0 : decode cJ19_append_2 0 = .ok (.aload_n 0, 1) := dk_42 (dk_at dksJ19_append_2_0 0 rfl rfl)
theorem dJ19_append_2_1 : decode cJ19_append_2 1 = .ok (.iload_n 1, 1) := dk_27 (dk_at dksJ19_append_2_0 1 rfl rfl)
theorem dJ19_append_2_2 : decode cJ19_append_2 2 = .ok (.invokespecial 53, 3) := dk_183 0 53 (dk_at dksJ19_append_2_0 2 rfl rfl)
theorem dJ19_append_2_5 : decode cJ19_append_2 5 = .ok (.pop, 1) := dk_87 (dk_at dksJ19_append_2_0 5 rfl rfl)
theorem dJ19_append_2_6 : decode cJ19_append_2 6 = .ok (.aload_n 0, 1) := dk_42 (dk_at dksJ19_append_2_0 6 rfl rfl)
theorem dJ19_append_2_7 : decode cJ19_append_2 7 = .ok (.areturn, 1) := dk_176 (dk_at dksJ19_append_2_0 7 rfl rfl)
abbrev cJ19_append_3 : ByteArray := prog_87_method_7_code
def yJ19_append_3 : MethodName := ⟨RJ19, "append", "(Ljava/lang/String;)Ljava/lang/StringBuilder;"⟩
def dkwJ19_append_3_0 : List UInt8 := [42, 43, 183, 0, 29, 87, 42, 176]
abbrev dktJ19_append_3_0 : List UInt8 := dkwJ19_append_3_0 ++ []
theorem dksJ19_append_3_0 : cJ19_append_3.data.toList.drop 0 = dktJ19_append_3_0 := by decide +kernel
theorem dJ19_append_3_0 : decode cJ19_append_3 0 = .ok (.aload_n 0, 1) := dk_42 (dk_at dksJ19_append_3_0 0 rfl rfl)
theorem dJ19_append_3_1 : decode cJ19_append_3 1 = .ok (.aload_n 1, 1) := dk_43 (dk_at dksJ19_append_3_0 1 rfl rfl)
theorem dJ19_append_3_2 : decode cJ19_append_3 2 = .ok (.invokespecial 29, 3) := dk_183 0 29 (dk_at dksJ19_append_3_0 2 rfl rfl)
theorem dJ19_append_3_5 : decode cJ19_append_3 5 = .ok (.pop, 1) := dk_87 (dk_at dksJ19_append_3_0 5 rfl rfl)
theorem dJ19_append_3_6 : decode cJ19_append_3 6 = .ok (.aload_n 0, 1) := dk_42 (dk_at dksJ19_append_3_0 6 rfl rfl)
theorem dJ19_append_3_7 : decode cJ19_append_3 7 = .ok (.areturn, 1) := dk_176 (dk_at dksJ19_append_3_0 7 rfl rfl)
abbrev cJ19_compareTo : ByteArray := prog_87_method_97_code
def yJ19_compareTo : MethodName := ⟨RJ19, "compareTo", "(Ljava/lang/Object;)I"⟩
def dkwJ19_compareTo_0 : List UInt8 := [42, 43, 192, 0, 24, 182, 1, 90, 172]
abbrev dktJ19_compareTo_0 : List UInt8 := dkwJ19_compareTo_0 ++ []
theorem dksJ19_compareTo_0 : cJ19_compareTo.data.toList.drop 0 = dktJ19_compareTo_0 := by decide +kernel
theorem dJ19_compareTo_0 : decode cJ19_compareTo 0 = .ok (.aload_n 0, 1) := dk_42 (dk_at dksJ19_compareTo_0 0 rfl rfl)
theorem dJ19_compareTo_1 : decode cJ19_compareTo 1 = .ok (.aload_n 1, 1) := dk_43 (dk_at dksJ19_compareTo_0 1 rfl rfl)
theorem dJ19_compareTo_2 : decode cJ19_compareTo 2 = .ok (.checkcast 24, 3) := dk_192 0 24 (dk_at dksJ19_compareTo_0 2 rfl rfl)
theorem dJ19_compareTo_5 : decode cJ19_compareTo 5 = .ok (.invokevirtual 346, 3) := dk_182 1 90 (dk_at dksJ19_compareTo_0 5 rfl rfl)
theorem dJ19_compareTo_8 : decode cJ19_compareTo 8 = .ok (.ireturn, 1) := dk_172 (dk_at dksJ19_compareTo_0 8 rfl rfl)
abbrev cJ19_compareTo_2 : ByteArray := prog_87_method_5_code
def yJ19_compareTo_2 : MethodName := ⟨RJ19, "compareTo", "(Ljava/lang/StringBuilder;)I"⟩
def dkwJ19_compareTo_2_0 : List UInt8 := [42, 43, 183, 0, 13, 172]
abbrev dktJ19_compareTo_2_0 : List UInt8 := dkwJ19_compareTo_2_0 ++ []
theorem dksJ19_compareTo_2_0 : cJ19_compareTo_2.data.toList.drop 0 = dktJ19_compareTo_2_0 := by decide +kernel
theorem dJ19_compareTo_2_0 : decode cJ19_compareTo_2 0 = .ok (.aload_n 0, 1) := dk_42 (dk_at dksJ19_compareTo_2_0 0 rfl rfl)
theorem dJ19_compareTo_2_1 : decode cJ19_compareTo_2 1 = .ok (.aload_n 1, 1) := dk_43 (dk_at dksJ19_compareTo_2_0 1 rfl rfl)
theorem dJ19_compareTo_2_2 : decode cJ19_compareTo_2 2 = .ok (.invokespecial 13, 3) := dk_183 0 13 (dk_at dksJ19_compareTo_2_0 2 rfl rfl)
theorem dJ19_compareTo_2_5 : decode cJ19_compareTo_2 5 = .ok (.ireturn, 1) := dk_172 (dk_at dksJ19_compareTo_2_0 5 rfl rfl)
abbrev cJ19_append_4 : ByteArray := prog_87_method_16_code
def yJ19_append_4 : MethodName := ⟨RJ19, "append", "(J)Ljava/lang/StringBuilder;"⟩
def dkwJ19_append_4_0 : List UInt8 := [42, 31, 183, 0, 56, 87, 42, 176]
abbrev dktJ19_append_4_0 : List UInt8 := dkwJ19_append_4_0 ++ []
theorem dksJ19_append_4_0 : cJ19_append_4.data.toList.drop 0 = dktJ19_append_4_0 := by decide +kernel
theorem dJ19_append_4_0 : decode cJ19_append_4 0 = .ok (.aload_n 0, 1) := dk_42 (dk_at dksJ19_append_4_0 0 rfl rfl)
theorem dJ19_append_4_1 : decode cJ19_append_4 1 = .ok (.lload_n 1, 1) := dk_31 (dk_at dksJ19_append_4_0 1 rfl rfl)
theorem dJ19_append_4_2 : decode cJ19_append_4 2 = .ok (.invokespecial 56, 3) := dk_183 0 56 (dk_at dksJ19_append_4_0 2 rfl rfl)
theorem dJ19_append_4_5 : decode cJ19_append_4 5 = .ok (.pop, 1) := dk_87 (dk_at dksJ19_append_4_0 5 rfl rfl)
theorem dJ19_append_4_6 : decode cJ19_append_4 6 = .ok (.aload_n 0, 1) := dk_42 (dk_at dksJ19_append_4_0 6 rfl rfl)
theorem dJ19_append_4_7 : decode cJ19_append_4 7 = .ok (.areturn, 1) := dk_176 (dk_at dksJ19_append_4_0 7 rfl rfl)
theorem q470 : (Jvm.Cond.initialized "java/lang/StringBuilder") ∈ lw_all := lw_g (lw_at lw_m1 78 rfl) rfl
theorem q2040 : (Jvm.Cond.selects "java/lang/StringBuilder" ({ cls := "java/lang/Object", name := "getClass", desc := "()Ljava/lang/Class;" } : Jvm.MethodName) ({ cls := "java/lang/Object", name := "getClass", desc := "()Ljava/lang/Class;" } : Jvm.MethodName)) ∈ lw_all := lw_g (lw_at lw_m7 208 rfl) rfl
theorem q2624 : (Jvm.Cond.instantiable "java/lang/StringBuilder" (4 : Nat)) ∈ lw_all := lw_g (lw_at lw_m10 72 rfl) rfl
theorem q2626 : (Jvm.Cond.instanceMethod ({ cls := "java/lang/StringBuilder", name := "<init>", desc := "()V" } : Jvm.MethodName)) ∈ lw_all := lw_g (lw_at lw_m10 74 rfl) rfl
theorem q2627 : (Jvm.Cond.code ({ cls := "java/lang/StringBuilder", name := "<init>", desc := "()V" } : Jvm.MethodName) prog_87_method_1_code (1 : Nat) (Option.none : Option Jvm.ClassFile.FieldType)) ∈ lw_all := lw_g (lw_at lw_m10 75 rfl) rfl
theorem q2628 : (Jvm.Cond.methodLink "java/lang/StringBuilder" (1 : Nat) ({ cls := "java/lang/AbstractStringBuilder", name := "<init>", desc := "(I)V" } : Jvm.MethodName)) ∈ lw_all := lw_g (lw_at lw_m10 76 rfl) rfl
theorem q2645 : (Jvm.Cond.lays "java/lang/StringBuilder" "java/lang/AbstractStringBuilder" "value" "[B") ∈ lw_all := lw_g (lw_at lw_m10 93 rfl) rfl
theorem q2647 : (Jvm.Cond.lays "java/lang/StringBuilder" "java/lang/AbstractStringBuilder" "coder" "B") ∈ lw_all := lw_g (lw_at lw_m10 95 rfl) rfl
theorem q2649 : (Jvm.Cond.lays "java/lang/StringBuilder" "java/lang/AbstractStringBuilder" "maybeLatin1" "Z") ∈ lw_all := lw_g (lw_at lw_m10 97 rfl) rfl
theorem q2651 : (Jvm.Cond.lays "java/lang/StringBuilder" "java/lang/AbstractStringBuilder" "count" "I") ∈ lw_all := lw_g (lw_at lw_m10 99 rfl) rfl
theorem q2653 : (Jvm.Cond.superclass "java/lang/StringBuilder" "java/lang/AbstractStringBuilder") ∈ lw_all := lw_g (lw_at lw_m10 101 rfl) rfl
theorem q2655 : (Jvm.Cond.instanceMethod ({ cls := "java/lang/StringBuilder", name := "append", desc := "(C)Ljava/lang/StringBuilder;" } : Jvm.MethodName)) ∈ lw_all := lw_g (lw_at lw_m10 103 rfl) rfl
theorem q2656 : (Jvm.Cond.selects "java/lang/StringBuilder" ({ cls := "java/lang/StringBuilder", name := "append", desc := "(C)Ljava/lang/StringBuilder;" } : Jvm.MethodName) ({ cls := "java/lang/StringBuilder", name := "append", desc := "(C)Ljava/lang/StringBuilder;" } : Jvm.MethodName)) ∈ lw_all := lw_g (lw_at lw_m10 104 rfl) rfl
theorem q2657 : (Jvm.Cond.code ({ cls := "java/lang/StringBuilder", name := "append", desc := "(C)Ljava/lang/StringBuilder;" } : Jvm.MethodName) prog_87_method_14_code (2 : Nat) (Option.some (Jvm.ClassFile.FieldType.object "java/lang/StringBuilder"))) ∈ lw_all := lw_g (lw_at lw_m10 105 rfl) rfl
theorem q2658 : (Jvm.Cond.methodLink "java/lang/StringBuilder" (50 : Nat) ({ cls := "java/lang/AbstractStringBuilder", name := "append", desc := "(C)Ljava/lang/AbstractStringBuilder;" } : Jvm.MethodName)) ∈ lw_all := lw_g (lw_at lw_m10 106 rfl) rfl
theorem q2682 : (Jvm.Cond.selects "java/lang/StringBuilder" ({ cls := "java/lang/AbstractStringBuilder", name := "isLatin1", desc := "()Z" } : Jvm.MethodName) ({ cls := "java/lang/AbstractStringBuilder", name := "isLatin1", desc := "()Z" } : Jvm.MethodName)) ∈ lw_all := lw_g (lw_at lw_m10 130 rfl) rfl
theorem q2733 : (Jvm.Cond.instanceMethod ({ cls := "java/lang/StringBuilder", name := "toString", desc := "()Ljava/lang/String;" } : Jvm.MethodName)) ∈ lw_all := lw_g (lw_at lw_m10 181 rfl) rfl
theorem q2734 : (Jvm.Cond.selects "java/lang/StringBuilder" ({ cls := "java/lang/StringBuilder", name := "toString", desc := "()Ljava/lang/String;" } : Jvm.MethodName) ({ cls := "java/lang/StringBuilder", name := "toString", desc := "()Ljava/lang/String;" } : Jvm.MethodName)) ∈ lw_all := lw_g (lw_at lw_m10 182 rfl) rfl
theorem q2735 : (Jvm.Cond.code ({ cls := "java/lang/StringBuilder", name := "toString", desc := "()Ljava/lang/String;" } : Jvm.MethodName) prog_87_method_42_code (1 : Nat) (Option.some (Jvm.ClassFile.FieldType.object "java/lang/String"))) ∈ lw_all := lw_g (lw_at lw_m10 183 rfl) rfl
theorem q2736 : (Jvm.Cond.classLink "java/lang/StringBuilder" (18 : Nat) "java/lang/String") ∈ lw_all := lw_g (lw_at lw_m10 184 rfl) rfl
theorem q2738 : (Jvm.Cond.methodLink "java/lang/StringBuilder" (137 : Nat) ({ cls := "java/lang/String", name := "<init>", desc := "(Ljava/lang/StringBuilder;)V" } : Jvm.MethodName)) ∈ lw_all := lw_g (lw_at lw_m10 186 rfl) rfl
theorem q2748 : (Jvm.Cond.selects "java/lang/StringBuilder" ({ cls := "java/lang/AbstractStringBuilder", name := "getValue", desc := "()[B" } : Jvm.MethodName) ({ cls := "java/lang/AbstractStringBuilder", name := "getValue", desc := "()[B" } : Jvm.MethodName)) ∈ lw_all := lw_g (lw_at lw_m10 196 rfl) rfl
theorem q2753 : (Jvm.Cond.selects "java/lang/StringBuilder" ({ cls := "java/lang/AbstractStringBuilder", name := "length", desc := "()I" } : Jvm.MethodName) ({ cls := "java/lang/StringBuilder", name := "length", desc := "()I" } : Jvm.MethodName)) ∈ lw_all := lw_g (lw_at lw_m10 201 rfl) rfl
theorem q2754 : (Jvm.Cond.instanceMethod ({ cls := "java/lang/StringBuilder", name := "length", desc := "()I" } : Jvm.MethodName)) ∈ lw_all := lw_g (lw_at lw_m10 202 rfl) rfl
theorem q2755 : (Jvm.Cond.code ({ cls := "java/lang/StringBuilder", name := "length", desc := "()I" } : Jvm.MethodName) prog_87_method_93_code (1 : Nat) (Option.some Jvm.ClassFile.FieldType.int)) ∈ lw_all := lw_g (lw_at lw_m10 203 rfl) rfl
theorem q2756 : (Jvm.Cond.methodLink "java/lang/StringBuilder" (343 : Nat) ({ cls := "java/lang/AbstractStringBuilder", name := "length", desc := "()I" } : Jvm.MethodName)) ∈ lw_all := lw_g (lw_at lw_m10 204 rfl) rfl
theorem q2813 : (Jvm.Cond.instanceMethod ({ cls := "java/lang/StringBuilder", name := "append", desc := "(I)Ljava/lang/StringBuilder;" } : Jvm.MethodName)) ∈ lw_all := lw_g (lw_at lw_m11 21 rfl) rfl
theorem q2814 : (Jvm.Cond.selects "java/lang/StringBuilder" ({ cls := "java/lang/StringBuilder", name := "append", desc := "(I)Ljava/lang/StringBuilder;" } : Jvm.MethodName) ({ cls := "java/lang/StringBuilder", name := "append", desc := "(I)Ljava/lang/StringBuilder;" } : Jvm.MethodName)) ∈ lw_all := lw_g (lw_at lw_m11 22 rfl) rfl
theorem q2815 : (Jvm.Cond.code ({ cls := "java/lang/StringBuilder", name := "append", desc := "(I)Ljava/lang/StringBuilder;" } : Jvm.MethodName) prog_87_method_15_code (2 : Nat) (Option.some (Jvm.ClassFile.FieldType.object "java/lang/StringBuilder"))) ∈ lw_all := lw_g (lw_at lw_m11 23 rfl) rfl
theorem q2816 : (Jvm.Cond.methodLink "java/lang/StringBuilder" (53 : Nat) ({ cls := "java/lang/AbstractStringBuilder", name := "append", desc := "(I)Ljava/lang/AbstractStringBuilder;" } : Jvm.MethodName)) ∈ lw_all := lw_g (lw_at lw_m11 24 rfl) rfl
theorem q2848 : (Jvm.Cond.instanceMethod ({ cls := "java/lang/StringBuilder", name := "append", desc := "(Ljava/lang/String;)Ljava/lang/StringBuilder;" } : Jvm.MethodName)) ∈ lw_all := lw_g (lw_at lw_m11 56 rfl) rfl
theorem q2849 : (Jvm.Cond.selects "java/lang/StringBuilder" ({ cls := "java/lang/StringBuilder", name := "append", desc := "(Ljava/lang/String;)Ljava/lang/StringBuilder;" } : Jvm.MethodName) ({ cls := "java/lang/StringBuilder", name := "append", desc := "(Ljava/lang/String;)Ljava/lang/StringBuilder;" } : Jvm.MethodName)) ∈ lw_all := lw_g (lw_at lw_m11 57 rfl) rfl
theorem q2850 : (Jvm.Cond.code ({ cls := "java/lang/StringBuilder", name := "append", desc := "(Ljava/lang/String;)Ljava/lang/StringBuilder;" } : Jvm.MethodName) prog_87_method_7_code (2 : Nat) (Option.some (Jvm.ClassFile.FieldType.object "java/lang/StringBuilder"))) ∈ lw_all := lw_g (lw_at lw_m11 58 rfl) rfl
theorem q2851 : (Jvm.Cond.methodLink "java/lang/StringBuilder" (29 : Nat) ({ cls := "java/lang/AbstractStringBuilder", name := "append", desc := "(Ljava/lang/String;)Ljava/lang/AbstractStringBuilder;" } : Jvm.MethodName)) ∈ lw_all := lw_g (lw_at lw_m11 59 rfl) rfl
theorem q3164 : (Jvm.Cond.selects "java/lang/StringBuilder" ({ cls := "java/lang/Object", name := "equals", desc := "(Ljava/lang/Object;)Z" } : Jvm.MethodName) ({ cls := "java/lang/Object", name := "equals", desc := "(Ljava/lang/Object;)Z" } : Jvm.MethodName)) ∈ lw_all := lw_g (lw_at lw_m12 132 rfl) rfl
theorem q3733 : (Jvm.Cond.selects "java/lang/StringBuilder" ({ cls := "java/lang/Object", name := "hashCode", desc := "()I" } : Jvm.MethodName) ({ cls := "java/lang/Object", name := "hashCode", desc := "()I" } : Jvm.MethodName)) ∈ lw_all := lw_g (lw_at lw_m14 221 rfl) rfl
theorem q4007 : (Jvm.Cond.castable "java/lang/StringBuilder" "java/lang/Comparable") ∈ lw_tbl := lw_at lw_m16 15 rfl
theorem q4008 : (Jvm.Cond.selects "java/lang/StringBuilder" ({ cls := "java/lang/Comparable", name := "compareTo", desc := "(Ljava/lang/Object;)I" } : Jvm.MethodName) ({ cls := "java/lang/StringBuilder", name := "compareTo", desc := "(Ljava/lang/Object;)I" } : Jvm.MethodName)) ∈ lw_all := lw_g (lw_at lw_m16 16 rfl) rfl
theorem q4009 : (Jvm.Cond.unhidden "java/lang/StringBuilder" "compareTo" "(Ljava/lang/Object;)I") ∈ lw_tbl := lw_at lw_m16 17 rfl
theorem q4010 : (Jvm.Cond.instanceMethod ({ cls := "java/lang/StringBuilder", name := "compareTo", desc := "(Ljava/lang/Object;)I" } : Jvm.MethodName)) ∈ lw_all := lw_g (lw_at lw_m16 18 rfl) rfl
theorem q4011 : (Jvm.Cond.publicMethod ({ cls := "java/lang/StringBuilder", name := "compareTo", desc := "(Ljava/lang/Object;)I" } : Jvm.MethodName)) ∈ lw_tbl := lw_at lw_m16 19 rfl
theorem q4012 : (Jvm.Cond.code ({ cls := "java/lang/StringBuilder", name := "compareTo", desc := "(Ljava/lang/Object;)I" } : Jvm.MethodName) prog_87_method_97_code (2 : Nat) (Option.some Jvm.ClassFile.FieldType.int)) ∈ lw_all := lw_g (lw_at lw_m16 20 rfl) rfl
theorem q4013 : (Jvm.Cond.classLink "java/lang/StringBuilder" (24 : Nat) "java/lang/StringBuilder") ∈ lw_all := lw_g (lw_at lw_m16 21 rfl) rfl
theorem q4014 : (Jvm.Cond.methodLink "java/lang/StringBuilder" (346 : Nat) ({ cls := "java/lang/StringBuilder", name := "compareTo", desc := "(Ljava/lang/StringBuilder;)I" } : Jvm.MethodName)) ∈ lw_all := lw_g (lw_at lw_m16 22 rfl) rfl
theorem q4015 : (Jvm.Cond.instanceMethod ({ cls := "java/lang/StringBuilder", name := "compareTo", desc := "(Ljava/lang/StringBuilder;)I" } : Jvm.MethodName)) ∈ lw_all := lw_g (lw_at lw_m16 23 rfl) rfl
theorem q4016 : (Jvm.Cond.selects "java/lang/StringBuilder" ({ cls := "java/lang/StringBuilder", name := "compareTo", desc := "(Ljava/lang/StringBuilder;)I" } : Jvm.MethodName) ({ cls := "java/lang/StringBuilder", name := "compareTo", desc := "(Ljava/lang/StringBuilder;)I" } : Jvm.MethodName)) ∈ lw_all := lw_g (lw_at lw_m16 24 rfl) rfl
theorem q4017 : (Jvm.Cond.code ({ cls := "java/lang/StringBuilder", name := "compareTo", desc := "(Ljava/lang/StringBuilder;)I" } : Jvm.MethodName) prog_87_method_5_code (2 : Nat) (Option.some Jvm.ClassFile.FieldType.int)) ∈ lw_all := lw_g (lw_at lw_m16 25 rfl) rfl
theorem q4018 : (Jvm.Cond.methodLink "java/lang/StringBuilder" (13 : Nat) ({ cls := "java/lang/AbstractStringBuilder", name := "compareTo", desc := "(Ljava/lang/AbstractStringBuilder;)I" } : Jvm.MethodName)) ∈ lw_all := lw_g (lw_at lw_m16 26 rfl) rfl
theorem q6538 : (Jvm.Cond.instanceMethod ({ cls := "java/lang/StringBuilder", name := "append", desc := "(J)Ljava/lang/StringBuilder;" } : Jvm.MethodName)) ∈ lw_all := lw_g (lw_at lw_m26 146 rfl) rfl
theorem q6539 : (Jvm.Cond.selects "java/lang/StringBuilder" ({ cls := "java/lang/StringBuilder", name := "append", desc := "(J)Ljava/lang/StringBuilder;" } : Jvm.MethodName) ({ cls := "java/lang/StringBuilder", name := "append", desc := "(J)Ljava/lang/StringBuilder;" } : Jvm.MethodName)) ∈ lw_all := lw_g (lw_at lw_m26 147 rfl) rfl
theorem q6540 : (Jvm.Cond.code ({ cls := "java/lang/StringBuilder", name := "append", desc := "(J)Ljava/lang/StringBuilder;" } : Jvm.MethodName) prog_87_method_16_code (3 : Nat) (Option.some (Jvm.ClassFile.FieldType.object "java/lang/StringBuilder"))) ∈ lw_all := lw_g (lw_at lw_m26 148 rfl) rfl
theorem q6541 : (Jvm.Cond.methodLink "java/lang/StringBuilder" (56 : Nat) ({ cls := "java/lang/AbstractStringBuilder", name := "append", desc := "(J)Ljava/lang/AbstractStringBuilder;" } : Jvm.MethodName)) ∈ lw_all := lw_g (lw_at lw_m26 149 rfl) rfl
theorem q9683 : (Jvm.Cond.castable "java/lang/StringBuilder" "java/lang/Object") ∈ lw_tbl := lw_at lw_m39 171 rfl
theorem in_J19 : ∀ w ∈ wsJ190, w ∈ lw_all := lw_in wsJ190 [2645, 2647, 2649, 2651] (by decide +kernel) (by decide +kernel)
