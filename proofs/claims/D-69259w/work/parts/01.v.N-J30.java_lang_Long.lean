/-! java/lang/Long -/
set_option maxRecDepth 100000
def RJ30 : String := "java/lang/Long"
def TJ30 : u_T := fun k => match k with
  | _ => ("java/lang/Long", "value", "J", true)
def tyJ30 : Nat → FieldType := fun k => match k with
  | _ => .long
abbrev wsJ300 : List Cond := u_ws RJ30 TJ30 1
theorem nmJ30 : ∀ a, a < 1 → ∀ b, b < 1 → a ≠ b → (TJ30 a).2.1 ≠ (TJ30 b).2.1 := by decide +kernel
theorem tyJ30_ok : ∀ k, k < 1 → parseFieldDescriptor (TJ30 k).2.2.1 = some (tyJ30 k) := by decide +kernel
abbrev cJ30_equals : ByteArray := prog_81_method_37_code
def yJ30_equals : MethodName := ⟨RJ30, "equals", "(Ljava/lang/Object;)Z"⟩
def dkwJ30_equals_1 : List UInt8 := [167, 0, 4, 3, 172, 3, 172]
abbrev dktJ30_equals_1 : List UInt8 := dkwJ30_equals_1 ++ []
def dkwJ30_equals_0 : List UInt8 := [43, 193, 0, 1, 153, 0, 24, 42, 180, 1, 17, 43, 192, 0, 1, 182, 1, 24, 148, 154, 0, 7, 4]
abbrev dktJ30_equals_0 : List UInt8 := dkwJ30_equals_0 ++ dktJ30_equals_1
theorem dksJ30_equals_0 : cJ30_equals.data.toList.drop 0 = dktJ30_equals_0 := by decide +kernel
theorem dksJ30_equals_1 : cJ30_equals.data.toList.drop 23 = dktJ30_equals_1 := dk_seg dksJ30_equals_0 23 rfl rfl
theorem dJ30_equals_0 : decode cJ30_equals 0 = .ok (.aload_n 1, 1) := dk_43 (dk_at dksJ30_equals_0 0 rfl rfl)
theorem dJ30_equals_1 : decode cJ30_equals 1 = .ok (.instanceof 1, 3) := dk_193 0 1 (dk_at dksJ30_equals_0 1 rfl rfl)
theorem dJ30_equals_4 : decode cJ30_equals 4 = .ok (.ifCond .eq 24, 3) := dk_153 0 24 (dk_at dksJ30_equals_0 4 rfl rfl)
theorem dJ30_equals_7 : decode cJ30_equals 7 = .ok (.aload_n 0, 1) := dk_42 (dk_at dksJ30_equals_0 7 rfl rfl)
theorem dJ30_equals_8 : decode cJ30_equals 8 = .ok (.getfield 273, 3) := dk_180 1 17 (dk_at dksJ30_equals_0 8 rfl rfl)
theorem dJ30_equals_11 : decode cJ30_equals 11 = .ok (.aload_n 1, 1) := dk_43 (dk_at dksJ30_equals_0 11 rfl rfl)
theorem dJ30_equals_12 : decode cJ30_equals 12 = .ok (.checkcast 1, 3) := dk_192 0 1 (dk_at dksJ30_equals_0 12 rfl rfl)
theorem dJ30_equals_15 : decode cJ30_equals 15 = .ok (.invokevirtual 280, 3) := dk_182 1 24 (dk_at dksJ30_equals_0 15 rfl rfl)
theorem dJ30_equals_18 : decode cJ30_equals 18 = .ok (.lcmp, 1) := dk_148 (dk_at dksJ30_equals_0 18 rfl rfl)
theorem dJ30_equals_19 : decode cJ30_equals 19 = .ok (.ifCond .ne 7, 3) := dk_154 0 7 (dk_at dksJ30_equals_0 19 rfl rfl)
theorem dJ30_equals_22 : decode cJ30_equals 22 = .ok (.iconst 1, 1) := dk_4 (dk_at dksJ30_equals_0 22 rfl rfl)
theorem dJ30_equals_23 : decode cJ30_equals 23 = .ok (.goto 4, 3) := dk_167 0 4 (dk_at dksJ30_equals_1 0 rfl rfl)
theorem dJ30_equals_26 : decode cJ30_equals 26 = .ok (.iconst 0, 1) := dk_3 (dk_at dksJ30_equals_1 3 rfl rfl)
theorem dJ30_equals_27 : decode cJ30_equals 27 = .ok (.ireturn, 1) := dk_172 (dk_at dksJ30_equals_1 4 rfl rfl)
theorem dJ30_equals_28 : decode cJ30_equals 28 = .ok (.iconst 0, 1) := dk_3 (dk_at dksJ30_equals_1 5 rfl rfl)
theorem dJ30_equals_29 : decode cJ30_equals 29 = .ok (.ireturn, 1) := dk_172 (dk_at dksJ30_equals_1 6 rfl rfl)
abbrev cJ30_longValue : ByteArray := prog_81_method_31_code
def yJ30_longValue : MethodName := ⟨RJ30, "longValue", "()J"⟩
theorem dJ30_longValue_0 : decode cJ30_longValue 0 = .ok (.aload_n 0, 1) := by decide +kernel
theorem dJ30_longValue_1 : decode cJ30_longValue 1 = .ok (.getfield 273, 3) := by decide +kernel
theorem dJ30_longValue_4 : decode cJ30_longValue 4 = .ok (.lreturn, 1) := by decide +kernel
abbrev cJ30_hashCode : ByteArray := prog_81_method_35_code
def yJ30_hashCode : MethodName := ⟨RJ30, "hashCode", "()I"⟩
def dkwJ30_hashCode_0 : List UInt8 := [42, 180, 1, 17, 184, 1, 21, 172]
abbrev dktJ30_hashCode_0 : List UInt8 := dkwJ30_hashCode_0 ++ []
theorem dksJ30_hashCode_0 : cJ30_hashCode.data.toList.drop 0 = dktJ30_hashCode_0 := by decide +kernel
theorem dJ30_hashCode_0 : decode cJ30_hashCode 0 = .ok (.aload_n 0, 1) := dk_42 (dk_at dksJ30_hashCode_0 0 rfl rfl)
theorem dJ30_hashCode_1 : decode cJ30_hashCode 1 = .ok (.getfield 273, 3) := dk_180 1 17 (dk_at dksJ30_hashCode_0 1 rfl rfl)
theorem dJ30_hashCode_4 : decode cJ30_hashCode 4 = .ok (.invokestatic 277, 3) := dk_184 1 21 (dk_at dksJ30_hashCode_0 4 rfl rfl)
theorem dJ30_hashCode_7 : decode cJ30_hashCode 7 = .ok (.ireturn, 1) := dk_172 (dk_at dksJ30_hashCode_0 7 rfl rfl)
abbrev cJ30_hashCode_2 : ByteArray := prog_81_method_36_code
def yJ30_hashCode_2 : MethodName := ⟨RJ30, "hashCode", "(J)I"⟩
def dkwJ30_hashCode_2_0 : List UInt8 := [30, 30, 16, 32, 125, 131, 136, 172]
abbrev dktJ30_hashCode_2_0 : List UInt8 := dkwJ30_hashCode_2_0 ++ []
theorem dksJ30_hashCode_2_0 : cJ30_hashCode_2.data.toList.drop 0 = dktJ30_hashCode_2_0 := by decide +kernel
theorem dJ30_hashCode_2_0 : decode cJ30_hashCode_2 0 = .ok (.lload_n 0, 1) := dk_30 (dk_at dksJ30_hashCode_2_0 0 rfl rfl)
theorem dJ30_hashCode_2_1 : decode cJ30_hashCode_2 1 = .ok (.lload_n 0, 1) := dk_30 (dk_at dksJ30_hashCode_2_0 1 rfl rfl)
theorem dJ30_hashCode_2_2 : decode cJ30_hashCode_2 2 = .ok (.bipush 32, 2) := dk_16 32 (dk_at dksJ30_hashCode_2_0 2 rfl rfl)
theorem dJ30_hashCode_2_4 : decode cJ30_hashCode_2 4 = .ok (.lushr, 1) := dk_125 (dk_at dksJ30_hashCode_2_0 4 rfl rfl)
theorem dJ30_hashCode_2_5 : decode cJ30_hashCode_2 5 = .ok (.lxor, 1) := dk_131 (dk_at dksJ30_hashCode_2_0 5 rfl rfl)
theorem dJ30_hashCode_2_6 : decode cJ30_hashCode_2 6 = .ok (.l2i, 1) := dk_136 (dk_at dksJ30_hashCode_2_0 6 rfl rfl)
theorem dJ30_hashCode_2_7 : decode cJ30_hashCode_2 7 = .ok (.ireturn, 1) := dk_172 (dk_at dksJ30_hashCode_2_0 7 rfl rfl)
abbrev cJ30_compareTo : ByteArray := prog_81_method_64_code
def yJ30_compareTo : MethodName := ⟨RJ30, "compareTo", "(Ljava/lang/Object;)I"⟩
def dkwJ30_compareTo_0 : List UInt8 := [42, 43, 192, 0, 1, 182, 1, 87, 172]
abbrev dktJ30_compareTo_0 : List UInt8 := dkwJ30_compareTo_0 ++ []
theorem dksJ30_compareTo_0 : cJ30_compareTo.data.toList.drop 0 = dktJ30_compareTo_0 := by decide +kernel
theorem dJ30_compareTo_0 : decode cJ30_compareTo 0 = .ok (.aload_n 0, 1) := dk_42 (dk_at dksJ30_compareTo_0 0 rfl rfl)
theorem dJ30_compareTo_1 : decode cJ30_compareTo 1 = .ok (.aload_n 1, 1) := dk_43 (dk_at dksJ30_compareTo_0 1 rfl rfl)
theorem dJ30_compareTo_2 : decode cJ30_compareTo 2 = .ok (.checkcast 1, 3) := dk_192 0 1 (dk_at dksJ30_compareTo_0 2 rfl rfl)
theorem dJ30_compareTo_5 : decode cJ30_compareTo 5 = .ok (.invokevirtual 343, 3) := dk_182 1 87 (dk_at dksJ30_compareTo_0 5 rfl rfl)
theorem dJ30_compareTo_8 : decode cJ30_compareTo 8 = .ok (.ireturn, 1) := dk_172 (dk_at dksJ30_compareTo_0 8 rfl rfl)
abbrev cJ30_compareTo_2 : ByteArray := prog_81_method_41_code
def yJ30_compareTo_2 : MethodName := ⟨RJ30, "compareTo", "(Ljava/lang/Long;)I"⟩
def dkwJ30_compareTo_2_0 : List UInt8 := [42, 180, 1, 17, 43, 180, 1, 17, 184, 1, 46, 172]
abbrev dktJ30_compareTo_2_0 : List UInt8 := dkwJ30_compareTo_2_0 ++ []
theorem dksJ30_compareTo_2_0 : cJ30_compareTo_2.data.toList.drop 0 = dktJ30_compareTo_2_0 := by decide +kernel
theorem dJ30_compareTo_2_0 : decode cJ30_compareTo_2 0 = .ok (.aload_n 0, 1) := dk_42 (dk_at dksJ30_compareTo_2_0 0 rfl rfl)
theorem dJ30_compareTo_2_1 : decode cJ30_compareTo_2 1 = .ok (.getfield 273, 3) := dk_180 1 17 (dk_at dksJ30_compareTo_2_0 1 rfl rfl)
theorem dJ30_compareTo_2_4 : decode cJ30_compareTo_2 4 = .ok (.aload_n 1, 1) := dk_43 (dk_at dksJ30_compareTo_2_0 4 rfl rfl)
theorem dJ30_compareTo_2_5 : decode cJ30_compareTo_2 5 = .ok (.getfield 273, 3) := dk_180 1 17 (dk_at dksJ30_compareTo_2_0 5 rfl rfl)
theorem dJ30_compareTo_2_8 : decode cJ30_compareTo_2 8 = .ok (.invokestatic 302, 3) := dk_184 1 46 (dk_at dksJ30_compareTo_2_0 8 rfl rfl)
theorem dJ30_compareTo_2_11 : decode cJ30_compareTo_2 11 = .ok (.ireturn, 1) := dk_172 (dk_at dksJ30_compareTo_2_0 11 rfl rfl)
abbrev cJ30_compare : ByteArray := prog_81_method_42_code
def yJ30_compare : MethodName := ⟨RJ30, "compare", "(JJ)I"⟩
def dkwJ30_compare_0 : List UInt8 := [30, 32, 148, 156, 0, 7, 2, 167, 0, 14, 30, 32, 148, 154, 0, 7, 3, 167, 0, 4, 4, 172]
abbrev dktJ30_compare_0 : List UInt8 := dkwJ30_compare_0 ++ []
theorem dksJ30_compare_0 : cJ30_compare.data.toList.drop 0 = dktJ30_compare_0 := by decide +kernel
theorem dJ30_compare_0 : decode cJ30_compare 0 = .ok (.lload_n 0, 1) := dk_30 (dk_at dksJ30_compare_0 0 rfl rfl)
theorem dJ30_compare_1 : decode cJ30_compare 1 = .ok (.lload_n 2, 1) := dk_32 (dk_at dksJ30_compare_0 1 rfl rfl)
theorem dJ30_compare_2 : decode cJ30_compare 2 = .ok (.lcmp, 1) := dk_148 (dk_at dksJ30_compare_0 2 rfl rfl)
theorem dJ30_compare_3 : decode cJ30_compare 3 = .ok (.ifCond .ge 7, 3) := dk_156 0 7 (dk_at dksJ30_compare_0 3 rfl rfl)
theorem dJ30_compare_6 : decode cJ30_compare 6 = .ok (.iconst (-1), 1) := dk_2 (dk_at dksJ30_compare_0 6 rfl rfl)
theorem dJ30_compare_7 : decode cJ30_compare 7 = .ok (.goto 14, 3) := dk_167 0 14 (dk_at dksJ30_compare_0 7 rfl rfl)
theorem dJ30_compare_10 : decode cJ30_compare 10 = .ok (.lload_n 0, 1) := dk_30 (dk_at dksJ30_compare_0 10 rfl rfl)
theorem dJ30_compare_11 : decode cJ30_compare 11 = .ok (.lload_n 2, 1) := dk_32 (dk_at dksJ30_compare_0 11 rfl rfl)
theorem dJ30_compare_12 : decode cJ30_compare 12 = .ok (.lcmp, 1) := dk_148 (dk_at dksJ30_compare_0 12 rfl rfl)
theorem dJ30_compare_13 : decode cJ30_compare 13 = .ok (.ifCond .ne 7, 3) := dk_154 0 7 (dk_at dksJ30_compare_0 13 rfl rfl)
theorem dJ30_compare_16 : decode cJ30_compare 16 = .ok (.iconst 0, 1) := dk_3 (dk_at dksJ30_compare_0 16 rfl rfl)
theorem dJ30_compare_17 : decode cJ30_compare 17 = .ok (.goto 4, 3) := dk_167 0 4 (dk_at dksJ30_compare_0 17 rfl rfl)
theorem dJ30_compare_20 : decode cJ30_compare 20 = .ok (.iconst 1, 1) := dk_4 (dk_at dksJ30_compare_0 20 rfl rfl)
theorem dJ30_compare_21 : decode cJ30_compare 21 = .ok (.ireturn, 1) := dk_172 (dk_at dksJ30_compare_0 21 rfl rfl)
abbrev cJ30_numberOfLeadingZeros : ByteArray := prog_81_method_48_code
def yJ30_numberOfLeadingZeros : MethodName := ⟨RJ30, "numberOfLeadingZeros", "(J)I"⟩
def dkwJ30_numberOfLeadingZeros_1 : List UInt8 := [184, 1, 52, 172]
abbrev dktJ30_numberOfLeadingZeros_1 : List UInt8 := dkwJ30_numberOfLeadingZeros_1 ++ []
def dkwJ30_numberOfLeadingZeros_0 : List UInt8 := [30, 16, 32, 125, 136, 61, 28, 154, 0, 14, 16, 32, 30, 136, 184, 1, 52, 96, 167, 0, 7, 28]
abbrev dktJ30_numberOfLeadingZeros_0 : List UInt8 := dkwJ30_numberOfLeadingZeros_0 ++ dktJ30_numberOfLeadingZeros_1
theorem dksJ30_numberOfLeadingZeros_0 : cJ30_numberOfLeadingZeros.data.toList.drop 0 = dktJ30_numberOfLeadingZeros_0 := by decide +kernel
theorem dksJ30_numberOfLeadingZeros_1 : cJ30_numberOfLeadingZeros.data.toList.drop 22 = dktJ30_numberOfLeadingZeros_1 := dk_seg dksJ30_numberOfLeadingZeros_0 22 rfl rfl
theorem dJ30_numberOfLeadingZeros_0 : decode cJ30_numberOfLeadingZeros 0 = .ok (.lload_n 0, 1) := dk_30 (dk_at dksJ30_numberOfLeadingZeros_0 0 rfl rfl)
theorem dJ30_numberOfLeadingZeros_1 : decode cJ30_numberOfLeadingZeros 1 = .ok (.bipush 32, 2) := dk_16 32 (dk_at dksJ30_numberOfLeadingZeros_0 1 rfl rfl)
theorem dJ30_numberOfLeadingZeros_3 : decode cJ30_numberOfLeadingZeros 3 = .ok (.lushr, 1) := dk_125 (dk_at dksJ30_numberOfLeadingZeros_0 3 rfl rfl)
theorem dJ30_numberOfLeadingZeros_4 : decode cJ30_numberOfLeadingZeros 4 = .ok (.l2i, 1) := dk_136 (dk_at dksJ30_numberOfLeadingZeros_0 4 rfl rfl)
theorem dJ30_numberOfLeadingZeros_5 : decode cJ30_numberOfLeadingZeros 5 = .ok (.istore_n 2, 1) := dk_61 (dk_at dksJ30_numberOfLeadingZeros_0 5 rfl rfl)
theorem dJ30_numberOfLeadingZeros_6 : decode cJ30_numberOfLeadingZeros 6 = .ok (.iload_n 2, 1) := dk_28 (dk_at dksJ30_numberOfLeadingZeros_0 6 rfl rfl)
theorem dJ30_numberOfLeadingZeros_7 : decode cJ30_numberOfLeadingZeros 7 = .ok (.ifCond .ne 14, 3) := dk_154 0 14 (dk_at dksJ30_numberOfLeadingZeros_0 7 rfl rfl)
theorem dJ30_numberOfLeadingZeros_10 : decode cJ30_numberOfLeadingZeros 10 = .ok (.bipush 32, 2) := dk_16 32 (dk_at dksJ30_numberOfLeadingZeros_0 10 rfl rfl)
theorem dJ30_numberOfLeadingZeros_12 : decode cJ30_numberOfLeadingZeros 12 = .ok (.lload_n 0, 1) := dk_30 (dk_at dksJ30_numberOfLeadingZeros_0 12 rfl rfl)
theorem dJ30_numberOfLeadingZeros_13 : decode cJ30_numberOfLeadingZeros 13 = .ok (.l2i, 1) := dk_136 (dk_at dksJ30_numberOfLeadingZeros_0 13 rfl rfl)
theorem dJ30_numberOfLeadingZeros_14 : decode cJ30_numberOfLeadingZeros 14 = .ok (.invokestatic 308, 3) := dk_184 1 52 (dk_at dksJ30_numberOfLeadingZeros_0 14 rfl rfl)
theorem dJ30_numberOfLeadingZeros_17 : decode cJ30_numberOfLeadingZeros 17 = .ok (.iadd, 1) := dk_96 (dk_at dksJ30_numberOfLeadingZeros_0 17 rfl rfl)
theorem dJ30_numberOfLeadingZeros_18 : decode cJ30_numberOfLeadingZeros 18 = .ok (.goto 7, 3) := dk_167 0 7 (dk_at dksJ30_numberOfLeadingZeros_0 18 rfl rfl)
theorem dJ30_numberOfLeadingZeros_21 : decode cJ30_numberOfLeadingZeros 21 = .ok (.iload_n 2, 1) := dk_28 (dk_at dksJ30_numberOfLeadingZeros_0 21 rfl rfl)
theorem dJ30_numberOfLeadingZeros_22 : decode cJ30_numberOfLeadingZeros 22 = .ok (.invokestatic 308, 3) := dk_184 1 52 (dk_at dksJ30_numberOfLeadingZeros_1 0 rfl rfl)
theorem dJ30_numberOfLeadingZeros_25 : decode cJ30_numberOfLeadingZeros 25 = .ok (.ireturn, 1) := dk_172 (dk_at dksJ30_numberOfLeadingZeros_1 3 rfl rfl)
abbrev cJ30_numberOfTrailingZeros : ByteArray := prog_81_method_49_code
def yJ30_numberOfTrailingZeros : MethodName := ⟨RJ30, "numberOfTrailingZeros", "(J)I"⟩
def dkwJ30_numberOfTrailingZeros_1 : List UInt8 := [184, 1, 55, 172]
abbrev dktJ30_numberOfTrailingZeros_1 : List UInt8 := dkwJ30_numberOfTrailingZeros_1 ++ []
def dkwJ30_numberOfTrailingZeros_0 : List UInt8 := [30, 136, 61, 28, 154, 0, 17, 16, 32, 30, 16, 32, 125, 136, 184, 1, 55, 96, 167, 0, 7, 28]
abbrev dktJ30_numberOfTrailingZeros_0 : List UInt8 := dkwJ30_numberOfTrailingZeros_0 ++ dktJ30_numberOfTrailingZeros_1
theorem dksJ30_numberOfTrailingZeros_0 : cJ30_numberOfTrailingZeros.data.toList.drop 0 = dktJ30_numberOfTrailingZeros_0 := by decide +kernel
theorem dksJ30_numberOfTrailingZeros_1 : cJ30_numberOfTrailingZeros.data.toList.drop 22 = dktJ30_numberOfTrailingZeros_1 := dk_seg dksJ30_numberOfTrailingZeros_0 22 rfl rfl
theorem dJ30_numberOfTrailingZeros_0 : decode cJ30_numberOfTrailingZeros 0 = .ok (.lload_n 0, 1) := dk_30 (dk_at dksJ30_numberOfTrailingZeros_0 0 rfl rfl)
theorem dJ30_numberOfTrailingZeros_1 : decode cJ30_numberOfTrailingZeros 1 = .ok (.l2i, 1) := dk_136 (dk_at dksJ30_numberOfTrailingZeros_0 1 rfl rfl)
theorem dJ30_numberOfTrailingZeros_2 : decode cJ30_numberOfTrailingZeros 2 = .ok (.istore_n 2, 1) := dk_61 (dk_at dksJ30_numberOfTrailingZeros_0 2 rfl rfl)
theorem dJ30_numberOfTrailingZeros_3 : decode cJ30_numberOfTrailingZeros 3 = .ok (.iload_n 2, 1) := dk_28 (dk_at dksJ30_numberOfTrailingZeros_0 3 rfl rfl)
theorem dJ30_numberOfTrailingZeros_4 : decode cJ30_numberOfTrailingZeros 4 = .ok (.ifCond .ne 17, 3) := dk_154 0 17 (dk_at dksJ30_numberOfTrailingZeros_0 4 rfl rfl)
theorem dJ30_numberOfTrailingZeros_7 : decode cJ30_numberOfTrailingZeros 7 = .ok (.bipush 32, 2) := dk_16 32 (dk_at dksJ30_numberOfTrailingZeros_0 7 rfl rfl)
theorem dJ30_numberOfTrailingZeros_9 : decode cJ30_numberOfTrailingZeros 9 = .ok (.lload_n 0, 1) := dk_30 (dk_at dksJ30_numberOfTrailingZeros_0 9 rfl rfl)
theorem dJ30_numberOfTrailingZeros_10 : decode cJ30_numberOfTrailingZeros 10 = .ok (.bipush 32, 2) := dk_16 32 (dk_at dksJ30_numberOfTrailingZeros_0 10 rfl rfl)
theorem dJ30_numberOfTrailingZeros_12 : decode cJ30_numberOfTrailingZeros 12 = .ok (.lushr, 1) := dk_125 (dk_at dksJ30_numberOfTrailingZeros_0 12 rfl rfl)
theorem dJ30_numberOfTrailingZeros_13 : decode cJ30_numberOfTrailingZeros 13 = .ok (.l2i, 1) := dk_136 (dk_at dksJ30_numberOfTrailingZeros_0 13 rfl rfl)
theorem dJ30_numberOfTrailingZeros_14 : decode cJ30_numberOfTrailingZeros 14 = .ok (.invokestatic 311, 3) := dk_184 1 55 (dk_at dksJ30_numberOfTrailingZeros_0 14 rfl rfl)
theorem dJ30_numberOfTrailingZeros_17 : decode cJ30_numberOfTrailingZeros 17 = .ok (.iadd, 1) := dk_96 (dk_at dksJ30_numberOfTrailingZeros_0 17 rfl rfl)
theorem dJ30_numberOfTrailingZeros_18 : decode cJ30_numberOfTrailingZeros 18 = .ok (.goto 7, 3) := dk_167 0 7 (dk_at dksJ30_numberOfTrailingZeros_0 18 rfl rfl)
theorem dJ30_numberOfTrailingZeros_21 : decode cJ30_numberOfTrailingZeros 21 = .ok (.iload_n 2, 1) := dk_28 (dk_at dksJ30_numberOfTrailingZeros_0 21 rfl rfl)
theorem dJ30_numberOfTrailingZeros_22 : decode cJ30_numberOfTrailingZeros 22 = .ok (.invokestatic 311, 3) := dk_184 1 55 (dk_at dksJ30_numberOfTrailingZeros_1 0 rfl rfl)
theorem dJ30_numberOfTrailingZeros_25 : decode cJ30_numberOfTrailingZeros 25 = .ok (.ireturn, 1) := dk_172 (dk_at dksJ30_numberOfTrailingZeros_1 3 rfl rfl)
abbrev cJ30_valueOf : ByteArray := prog_81_method_24_code
def yJ30_valueOf : MethodName := ⟨RJ30, "valueOf", "(J)Ljava/lang/Long;"⟩
def dkwJ30_valueOf_1 : List UInt8 := [136, 17, 0, 128, 96, 50, 176, 187, 0, 1, 89, 30, 183, 0, 240, 176]
abbrev dktJ30_valueOf_1 : List UInt8 := dkwJ30_valueOf_1 ++ []
def dkwJ30_valueOf_0 : List UInt8 := [17, 0, 128, 61, 30, 20, 0, 230, 148, 155, 0, 22, 30, 20, 0, 232, 148, 157, 0, 14, 178, 0, 234, 30]
abbrev dktJ30_valueOf_0 : List UInt8 := dkwJ30_valueOf_0 ++ dktJ30_valueOf_1
theorem dksJ30_valueOf_0 : cJ30_valueOf.data.toList.drop 0 = dktJ30_valueOf_0 := by decide +kernel
theorem dksJ30_valueOf_1 : cJ30_valueOf.data.toList.drop 24 = dktJ30_valueOf_1 := dk_seg dksJ30_valueOf_0 24 rfl rfl
theorem dJ30_valueOf_0 : decode cJ30_valueOf 0 = .ok (.sipush 128, 3) := dk_17 0 128 (dk_at dksJ30_valueOf_0 0 rfl rfl)
theorem dJ30_valueOf_3 : decode cJ30_valueOf 3 = .ok (.istore_n 2, 1) := dk_61 (dk_at dksJ30_valueOf_0 3 rfl rfl)
theorem dJ30_valueOf_4 : decode cJ30_valueOf 4 = .ok (.lload_n 0, 1) := dk_30 (dk_at dksJ30_valueOf_0 4 rfl rfl)
theorem dJ30_valueOf_5 : decode cJ30_valueOf 5 = .ok (.ldc2_w 230, 3) := dk_20 0 230 (dk_at dksJ30_valueOf_0 5 rfl rfl)
theorem dJ30_valueOf_8 : decode cJ30_valueOf 8 = .ok (.lcmp, 1) := dk_148 (dk_at dksJ30_valueOf_0 8 rfl rfl)
theorem dJ30_valueOf_9 : decode cJ30_valueOf 9 = .ok (.ifCond .lt 22, 3) := dk_155 0 22 (dk_at dksJ30_valueOf_0 9 rfl rfl)
theorem dJ30_valueOf_12 : decode cJ30_valueOf 12 = .ok (.lload_n 0, 1) := dk_30 (dk_at dksJ30_valueOf_0 12 rfl rfl)
theorem dJ30_valueOf_13 : decode cJ30_valueOf 13 = .ok (.ldc2_w 232, 3) := dk_20 0 232 (dk_at dksJ30_valueOf_0 13 rfl rfl)
theorem dJ30_valueOf_16 : decode cJ30_valueOf 16 = .ok (.lcmp, 1) := dk_148 (dk_at dksJ30_valueOf_0 16 rfl rfl)
theorem dJ30_valueOf_17 : decode cJ30_valueOf 17 = .ok (.ifCond .gt 14, 3) := dk_157 0 14 (dk_at dksJ30_valueOf_0 17 rfl rfl)
theorem dJ30_valueOf_20 : decode cJ30_valueOf 20 = .ok (.getstatic 234, 3) := dk_178 0 234 (dk_at dksJ30_valueOf_0 20 rfl rfl)
theorem dJ30_valueOf_23 : decode cJ30_valueOf 23 = .ok (.lload_n 0, 1) := dk_30 (dk_at dksJ30_valueOf_0 23 rfl rfl)
theorem dJ30_valueOf_24 : decode cJ30_valueOf 24 = .ok (.l2i, 1) := dk_136 (dk_at dksJ30_valueOf_1 0 rfl rfl)
theorem dJ30_valueOf_25 : decode cJ30_valueOf 25 = .ok (.sipush 128, 3) := dk_17 0 128 (dk_at dksJ30_valueOf_1 1 rfl rfl)
theorem dJ30_valueOf_28 : decode cJ30_valueOf 28 = .ok (.iadd, 1) := dk_96 (dk_at dksJ30_valueOf_1 4 rfl rfl)
theorem dJ30_valueOf_29 : decode cJ30_valueOf 29 = .ok (.aaload, 1) := dk_50 (dk_at dksJ30_valueOf_1 5 rfl rfl)
theorem dJ30_valueOf_30 : decode cJ30_valueOf 30 = .ok (.areturn, 1) := dk_176 (dk_at dksJ30_valueOf_1 6 rfl rfl)
theorem dJ30_valueOf_31 : decode cJ30_valueOf 31 = .ok (.new 1, 3) := dk_187 0 1 (dk_at dksJ30_valueOf_1 7 rfl rfl)
theorem dJ30_valueOf_34 : decode cJ30_valueOf 34 = .ok (.dup, 1) := dk_89 (dk_at dksJ30_valueOf_1 10 rfl rfl)
theorem dJ30_valueOf_35 : decode cJ30_valueOf 35 = .ok (.lload_n 0, 1) := dk_30 (dk_at dksJ30_valueOf_1 11 rfl rfl)
theorem dJ30_valueOf_36 : decode cJ30_valueOf 36 = .ok (.invokespecial 240, 3) := dk_183 0 240 (dk_at dksJ30_valueOf_1 12 rfl rfl)
theorem dJ30_valueOf_39 : decode cJ30_valueOf 39 = .ok (.areturn, 1) := dk_176 (dk_at dksJ30_valueOf_1 15 rfl rfl)
abbrev cJ30_init : ByteArray := prog_81_method_26_code
def yJ30_init : MethodName := ⟨RJ30, "<init>", "(J)V"⟩
def dkwJ30_init_0 : List UInt8 := [42, 183, 1, 14, 42, 31, 181, 1, 17, 177]
abbrev dktJ30_init_0 : List UInt8 := dkwJ30_init_0 ++ []
theorem dksJ30_init_0 : cJ30_init.data.toList.drop 0 = dktJ30_init_0 := by decide +kernel
theorem dJ30_init_0 : decode cJ30_init 0 = .ok (.aload_n 0, 1) := dk_42 (dk_at dksJ30_init_0 0 rfl rfl)
theorem dJ30_init_1 : decode cJ30_init 1 = .ok (.invokespecial 270, 3) := dk_183 1 14 (dk_at dksJ30_init_0 1 rfl rfl)
theorem dJ30_init_4 : decode cJ30_init 4 = .ok (.aload_n 0, 1) := dk_42 (dk_at dksJ30_init_0 4 rfl rfl)
theorem dJ30_init_5 : decode cJ30_init 5 = .ok (.lload_n 1, 1) := dk_31 (dk_at dksJ30_init_0 5 rfl rfl)
theorem dJ30_init_6 : decode cJ30_init 6 = .ok (.putfield 273, 3) := dk_181 1 17 (dk_at dksJ30_init_0 6 rfl rfl)
theorem dJ30_init_9 : decode cJ30_init 9 = .ok (.return_, 1) := dk_177 (dk_at dksJ30_init_0 9 rfl rfl)
abbrev cJ30_signum : ByteArray := prog_81_method_57_code
def yJ30_signum : MethodName := ⟨RJ30, "signum", "(J)I"⟩
def dkwJ30_signum_0 : List UInt8 := [30, 16, 63, 123, 30, 117, 16, 63, 125, 129, 136, 172]
abbrev dktJ30_signum_0 : List UInt8 := dkwJ30_signum_0 ++ []
theorem dksJ30_signum_0 : cJ30_signum.data.toList.drop 0 = dktJ30_signum_0 := by decide +kernel
theorem dJ30_signum_0 : decode cJ30_signum 0 = .ok (.lload_n 0, 1) := dk_30 (dk_at dksJ30_signum_0 0 rfl rfl)
theorem dJ30_signum_1 : decode cJ30_signum 1 = .ok (.bipush 63, 2) := dk_16 63 (dk_at dksJ30_signum_0 1 rfl rfl)
theorem dJ30_signum_3 : decode cJ30_signum 3 = .ok (.lshr, 1) := dk_123 (dk_at dksJ30_signum_0 3 rfl rfl)
theorem dJ30_signum_4 : decode cJ30_signum 4 = .ok (.lload_n 0, 1) := dk_30 (dk_at dksJ30_signum_0 4 rfl rfl)
theorem dJ30_signum_5 : decode cJ30_signum 5 = .ok (.lneg, 1) := dk_117 (dk_at dksJ30_signum_0 5 rfl rfl)
theorem dJ30_signum_6 : decode cJ30_signum 6 = .ok (.bipush 63, 2) := dk_16 63 (dk_at dksJ30_signum_0 6 rfl rfl)
theorem dJ30_signum_8 : decode cJ30_signum 8 = .ok (.lushr, 1) := dk_125 (dk_at dksJ30_signum_0 8 rfl rfl)
theorem dJ30_signum_9 : decode cJ30_signum 9 = .ok (.lor, 1) := dk_129 (dk_at dksJ30_signum_0 9 rfl rfl)
theorem dJ30_signum_10 : decode cJ30_signum 10 = .ok (.l2i, 1) := dk_136 (dk_at dksJ30_signum_0 10 rfl rfl)
theorem dJ30_signum_11 : decode cJ30_signum 11 = .ok (.ireturn, 1) := dk_172 (dk_at dksJ30_signum_0 11 rfl rfl)
abbrev cJ30_stringSize : ByteArray := prog_81_method_15_code
def yJ30_stringSize : MethodName := ⟨RJ30, "stringSize", "(J)I"⟩
def dkwJ30_stringSize_2 : List UInt8 := [167, 255, 229, 16, 19, 28, 96, 172]
abbrev dktJ30_stringSize_2 : List UInt8 := dkwJ30_stringSize_2 ++ []
def dkwJ30_stringSize_1 : List UInt8 := [162, 0, 26, 30, 33, 148, 158, 0, 8, 21, 5, 28, 96, 172, 20, 0, 53, 33, 105, 66, 132, 5, 1]
abbrev dktJ30_stringSize_1 : List UInt8 := dkwJ30_stringSize_1 ++ dktJ30_stringSize_2
def dkwJ30_stringSize_0 : List UInt8 := [4, 61, 30, 9, 148, 155, 0, 8, 3, 61, 30, 117, 63, 20, 0, 140, 66, 4, 54, 5, 21, 5, 16, 19]
abbrev dktJ30_stringSize_0 : List UInt8 := dkwJ30_stringSize_0 ++ dktJ30_stringSize_1
theorem dksJ30_stringSize_0 : cJ30_stringSize.data.toList.drop 0 = dktJ30_stringSize_0 := by decide +kernel
theorem dksJ30_stringSize_1 : cJ30_stringSize.data.toList.drop 24 = dktJ30_stringSize_1 := dk_seg dksJ30_stringSize_0 24 rfl rfl
theorem dksJ30_stringSize_2 : cJ30_stringSize.data.toList.drop 47 = dktJ30_stringSize_2 := dk_seg dksJ30_stringSize_1 23 rfl rfl
theorem dJ30_stringSize_0 : decode cJ30_stringSize 0 = .ok (.iconst 1, 1) := dk_4 (dk_at dksJ30_stringSize_0 0 rfl rfl)
theorem dJ30_stringSize_1 : decode cJ30_stringSize 1 = .ok (.istore_n 2, 1) := dk_61 (dk_at dksJ30_stringSize_0 1 rfl rfl)
theorem dJ30_stringSize_2 : decode cJ30_stringSize 2 = .ok (.lload_n 0, 1) := dk_30 (dk_at dksJ30_stringSize_0 2 rfl rfl)
theorem dJ30_stringSize_3 : decode cJ30_stringSize 3 = .ok (.lconst 0, 1) := dk_9 (dk_at dksJ30_stringSize_0 3 rfl rfl)
theorem dJ30_stringSize_4 : decode cJ30_stringSize 4 = .ok (.lcmp, 1) := dk_148 (dk_at dksJ30_stringSize_0 4 rfl rfl)
theorem dJ30_stringSize_5 : decode cJ30_stringSize 5 = .ok (.ifCond .lt 8, 3) := dk_155 0 8 (dk_at dksJ30_stringSize_0 5 rfl rfl)
theorem dJ30_stringSize_8 : decode cJ30_stringSize 8 = .ok (.iconst 0, 1) := dk_3 (dk_at dksJ30_stringSize_0 8 rfl rfl)
theorem dJ30_stringSize_9 : decode cJ30_stringSize 9 = .ok (.istore_n 2, 1) := dk_61 (dk_at dksJ30_stringSize_0 9 rfl rfl)
theorem dJ30_stringSize_10 : decode cJ30_stringSize 10 = .ok (.lload_n 0, 1) := dk_30 (dk_at dksJ30_stringSize_0 10 rfl rfl)
theorem dJ30_stringSize_11 : decode cJ30_stringSize 11 = .ok (.lneg, 1) := dk_117 (dk_at dksJ30_stringSize_0 11 rfl rfl)
theorem dJ30_stringSize_12 : decode cJ30_stringSize 12 = .ok (.lstore_n 0, 1) := dk_63 (dk_at dksJ30_stringSize_0 12 rfl rfl)
theorem dJ30_stringSize_13 : decode cJ30_stringSize 13 = .ok (.ldc2_w 140, 3) := dk_20 0 140 (dk_at dksJ30_stringSize_0 13 rfl rfl)
theorem dJ30_stringSize_16 : decode cJ30_stringSize 16 = .ok (.lstore_n 3, 1) := dk_66 (dk_at dksJ30_stringSize_0 16 rfl rfl)
theorem dJ30_stringSize_17 : decode cJ30_stringSize 17 = .ok (.iconst 1, 1) := dk_4 (dk_at dksJ30_stringSize_0 17 rfl rfl)
theorem dJ30_stringSize_18 : decode cJ30_stringSize 18 = .ok (.istore 5, 2) := dk_54 5 (dk_at dksJ30_stringSize_0 18 rfl rfl)
theorem dJ30_stringSize_20 : decode cJ30_stringSize 20 = .ok (.iload 5, 2) := dk_21 5 (dk_at dksJ30_stringSize_0 20 rfl rfl)
theorem dJ30_stringSize_22 : decode cJ30_stringSize 22 = .ok (.bipush 19, 2) := dk_16 19 (dk_at dksJ30_stringSize_0 22 rfl rfl)
theorem dJ30_stringSize_24 : decode cJ30_stringSize 24 = .ok (.if_icmp .ge 26, 3) := dk_162 0 26 (dk_at dksJ30_stringSize_1 0 rfl rfl)
theorem dJ30_stringSize_27 : decode cJ30_stringSize 27 = .ok (.lload_n 0, 1) := dk_30 (dk_at dksJ30_stringSize_1 3 rfl rfl)
theorem dJ30_stringSize_28 : decode cJ30_stringSize 28 = .ok (.lload_n 3, 1) := dk_33 (dk_at dksJ30_stringSize_1 4 rfl rfl)
theorem dJ30_stringSize_29 : decode cJ30_stringSize 29 = .ok (.lcmp, 1) := dk_148 (dk_at dksJ30_stringSize_1 5 rfl rfl)
theorem dJ30_stringSize_30 : decode cJ30_stringSize 30 = .ok (.ifCond .le 8, 3) := dk_158 0 8 (dk_at dksJ30_stringSize_1 6 rfl rfl)
theorem dJ30_stringSize_33 : decode cJ30_stringSize 33 = .ok (.iload 5, 2) := dk_21 5 (dk_at dksJ30_stringSize_1 9 rfl rfl)
theorem dJ30_stringSize_35 : decode cJ30_stringSize 35 = .ok (.iload_n 2, 1) := dk_28 (dk_at dksJ30_stringSize_1 11 rfl rfl)
theorem dJ30_stringSize_36 : decode cJ30_stringSize 36 = .ok (.iadd, 1) := dk_96 (dk_at dksJ30_stringSize_1 12 rfl rfl)
theorem dJ30_stringSize_37 : decode cJ30_stringSize 37 = .ok (.ireturn, 1) := dk_172 (dk_at dksJ30_stringSize_1 13 rfl rfl)
theorem dJ30_stringSize_38 : decode cJ30_stringSize 38 = .ok (.ldc2_w 53, 3) := dk_20 0 53 (dk_at dksJ30_stringSize_1 14 rfl rfl)
theorem dJ30_stringSize_41 : decode cJ30_stringSize 41 = .ok (.lload_n 3, 1) := dk_33 (dk_at dksJ30_stringSize_1 17 rfl rfl)
theorem dJ30_stringSize_42 : decode cJ30_stringSize 42 = .ok (.lmul, 1) := dk_105 (dk_at dksJ30_stringSize_1 18 rfl rfl)
theorem dJ30_stringSize_43 : decode cJ30_stringSize 43 = .ok (.lstore_n 3, 1) := dk_66 (dk_at dksJ30_stringSize_1 19 rfl rfl)
theorem dJ30_stringSize_44 : decode cJ30_stringSize 44 = .ok (.iinc 5 1, 3) := dk_132 5 1 (dk_at dksJ30_stringSize_1 20 rfl rfl)
theorem dJ30_stringSize_47 : decode cJ30_stringSize 47 = .ok (.goto (-27), 3) := dk_167 255 229 (dk_at dksJ30_stringSize_2 0 rfl rfl)
theorem dJ30_stringSize_50 : decode cJ30_stringSize 50 = .ok (.bipush 19, 2) := dk_16 19 (dk_at dksJ30_stringSize_2 3 rfl rfl)
theorem dJ30_stringSize_52 : decode cJ30_stringSize 52 = .ok (.iload_n 2, 1) := dk_28 (dk_at dksJ30_stringSize_2 5 rfl rfl)
theorem dJ30_stringSize_53 : decode cJ30_stringSize 53 = .ok (.iadd, 1) := dk_96 (dk_at dksJ30_stringSize_2 6 rfl rfl)
theorem dJ30_stringSize_54 : decode cJ30_stringSize 54 = .ok (.ireturn, 1) := dk_172 (dk_at dksJ30_stringSize_2 7 rfl rfl)
abbrev cJ30_getChars : ByteArray := prog_81_method_14_code
def yJ30_getChars : MethodName := ⟨RJ30, "getChars", "(JI[B)I"⟩
def dkwJ30_getChars_8 : List UInt8 := [21, 7, 16, 45, 84, 21, 7, 172]
abbrev dktJ30_getChars_8 : List UInt8 := dkwJ30_getChars_8 ++ []
def dkwJ30_getChars_7 : List UInt8 := [45, 132, 7, 255, 21, 7, 178, 0, 137, 21, 10, 116, 51, 84, 21, 8, 153, 0, 12, 45, 132, 7, 255]
abbrev dktJ30_getChars_7 : List UInt8 := dkwJ30_getChars_7 ++ dktJ30_getChars_8
def dkwJ30_getChars_6 : List UInt8 := [167, 255, 202, 45, 132, 7, 255, 21, 7, 178, 0, 133, 21, 10, 116, 51, 84, 21, 10, 16, 247, 162, 0, 17]
abbrev dktJ30_getChars_6 : List UInt8 := dkwJ30_getChars_6 ++ dktJ30_getChars_7
def dkwJ30_getChars_5 : List UInt8 := [21, 7, 178, 0, 133, 21, 6, 51, 84, 45, 132, 7, 255, 21, 7, 178, 0, 137, 21, 6, 51, 84]
abbrev dktJ30_getChars_5 : List UInt8 := dkwJ30_getChars_5 ++ dktJ30_getChars_6
def dkwJ30_getChars_4 : List UInt8 := [16, 100, 108, 54, 9, 21, 9, 16, 100, 104, 21, 10, 100, 54, 6, 21, 9, 54, 10, 45, 132, 7, 255]
abbrev dktJ30_getChars_4 : List UInt8 := dkwJ30_getChars_4 ++ dktJ30_getChars_5
def dkwJ30_getChars_3 : List UInt8 := [178, 0, 137, 21, 6, 51, 84, 167, 255, 201, 30, 136, 54, 10, 21, 10, 16, 156, 163, 0, 53, 21, 10]
abbrev dktJ30_getChars_3 : List UInt8 := dkwJ30_getChars_3 ++ dktJ30_getChars_4
def dkwJ30_getChars_2 : List UInt8 := [54, 6, 22, 4, 63, 45, 132, 7, 255, 21, 7, 178, 0, 133, 21, 6, 51, 84, 45, 132, 7, 255, 21, 7]
abbrev dktJ30_getChars_2 : List UInt8 := dkwJ30_getChars_2 ++ dktJ30_getChars_3
def dkwJ30_getChars_1 : List UInt8 := [30, 20, 0, 129, 148, 157, 0, 53, 30, 20, 0, 131, 109, 55, 4, 22, 4, 20, 0, 131, 105, 30, 101, 136]
abbrev dktJ30_getChars_1 : List UInt8 := dkwJ30_getChars_1 ++ dktJ30_getChars_2
def dkwJ30_getChars_0 : List UInt8 := [28, 54, 7, 30, 9, 148, 156, 0, 7, 4, 167, 0, 4, 3, 54, 8, 21, 8, 154, 0, 6, 30, 117, 63]
abbrev dktJ30_getChars_0 : List UInt8 := dkwJ30_getChars_0 ++ dktJ30_getChars_1
theorem dksJ30_getChars_0 : cJ30_getChars.data.toList.drop 0 = dktJ30_getChars_0 := by decide +kernel
theorem dksJ30_getChars_1 : cJ30_getChars.data.toList.drop 24 = dktJ30_getChars_1 := dk_seg dksJ30_getChars_0 24 rfl rfl
theorem dksJ30_getChars_2 : cJ30_getChars.data.toList.drop 48 = dktJ30_getChars_2 := dk_seg dksJ30_getChars_1 24 rfl rfl
theorem dksJ30_getChars_3 : cJ30_getChars.data.toList.drop 72 = dktJ30_getChars_3 := dk_seg dksJ30_getChars_2 24 rfl rfl
theorem dksJ30_getChars_4 : cJ30_getChars.data.toList.drop 95 = dktJ30_getChars_4 := dk_seg dksJ30_getChars_3 23 rfl rfl
theorem dksJ30_getChars_5 : cJ30_getChars.data.toList.drop 118 = dktJ30_getChars_5 := dk_seg dksJ30_getChars_4 23 rfl rfl
theorem dksJ30_getChars_6 : cJ30_getChars.data.toList.drop 140 = dktJ30_getChars_6 := dk_seg dksJ30_getChars_5 22 rfl rfl
theorem dksJ30_getChars_7 : cJ30_getChars.data.toList.drop 164 = dktJ30_getChars_7 := dk_seg dksJ30_getChars_6 24 rfl rfl
theorem dksJ30_getChars_8 : cJ30_getChars.data.toList.drop 187 = dktJ30_getChars_8 := dk_seg dksJ30_getChars_7 23 rfl rfl
theorem dJ30_getChars_0 : decode cJ30_getChars 0 = .ok (.iload_n 2, 1) := dk_28 (dk_at dksJ30_getChars_0 0 rfl rfl)
theorem dJ30_getChars_1 : decode cJ30_getChars 1 = .ok (.istore 7, 2) := dk_54 7 (dk_at dksJ30_getChars_0 1 rfl rfl)
theorem dJ30_getChars_3 : decode cJ30_getChars 3 = .ok (.lload_n 0, 1) := dk_30 (dk_at dksJ30_getChars_0 3 rfl rfl)
theorem dJ30_getChars_4 : decode cJ30_getChars 4 = .ok (.lconst 0, 1) := dk_9 (dk_at dksJ30_getChars_0 4 rfl rfl)
theorem dJ30_getChars_5 : decode cJ30_getChars 5 = .ok (.lcmp, 1) := dk_148 (dk_at dksJ30_getChars_0 5 rfl rfl)
theorem dJ30_getChars_6 : decode cJ30_getChars 6 = .ok (.ifCond .ge 7, 3) := dk_156 0 7 (dk_at dksJ30_getChars_0 6 rfl rfl)
theorem dJ30_getChars_9 : decode cJ30_getChars 9 = .ok (.iconst 1, 1) := dk_4 (dk_at dksJ30_getChars_0 9 rfl rfl)
theorem dJ30_getChars_10 : decode cJ30_getChars 10 = .ok (.goto 4, 3) := dk_167 0 4 (dk_at dksJ30_getChars_0 10 rfl rfl)
theorem dJ30_getChars_13 : decode cJ30_getChars 13 = .ok (.iconst 0, 1) := dk_3 (dk_at dksJ30_getChars_0 13 rfl rfl)
theorem dJ30_getChars_14 : decode cJ30_getChars 14 = .ok (.istore 8, 2) := dk_54 8 (dk_at dksJ30_getChars_0 14 rfl rfl)
theorem dJ30_getChars_16 : decode cJ30_getChars 16 = .ok (.iload 8, 2) := dk_21 8 (dk_at dksJ30_getChars_0 16 rfl rfl)
theorem dJ30_getChars_18 : decode cJ30_getChars 18 = .ok (.ifCond .ne 6, 3) := dk_154 0 6 (dk_at dksJ30_getChars_0 18 rfl rfl)
theorem dJ30_getChars_21 : decode cJ30_getChars 21 = .ok (.lload_n 0, 1) := dk_30 (dk_at dksJ30_getChars_0 21 rfl rfl)
theorem dJ30_getChars_22 : decode cJ30_getChars 22 = .ok (.lneg, 1) := dk_117 (dk_at dksJ30_getChars_0 22 rfl rfl)
theorem dJ30_getChars_23 : decode cJ30_getChars 23 = .ok (.lstore_n 0, 1) := dk_63 (dk_at dksJ30_getChars_0 23 rfl rfl)
theorem dJ30_getChars_24 : decode cJ30_getChars 24 = .ok (.lload_n 0, 1) := dk_30 (dk_at dksJ30_getChars_1 0 rfl rfl)
theorem dJ30_getChars_25 : decode cJ30_getChars 25 = .ok (.ldc2_w 129, 3) := dk_20 0 129 (dk_at dksJ30_getChars_1 1 rfl rfl)
theorem dJ30_getChars_28 : decode cJ30_getChars 28 = .ok (.lcmp, 1) := dk_148 (dk_at dksJ30_getChars_1 4 rfl rfl)
theorem dJ30_getChars_29 : decode cJ30_getChars 29 = .ok (.ifCond .gt 53, 3) := dk_157 0 53 (dk_at dksJ30_getChars_1 5 rfl rfl)
theorem dJ30_getChars_32 : decode cJ30_getChars 32 = .ok (.lload_n 0, 1) := dk_30 (dk_at dksJ30_getChars_1 8 rfl rfl)
theorem dJ30_getChars_33 : decode cJ30_getChars 33 = .ok (.ldc2_w 131, 3) := dk_20 0 131 (dk_at dksJ30_getChars_1 9 rfl rfl)
theorem dJ30_getChars_36 : decode cJ30_getChars 36 = .ok (.ldiv, 1) := dk_109 (dk_at dksJ30_getChars_1 12 rfl rfl)
theorem dJ30_getChars_37 : decode cJ30_getChars 37 = .ok (.lstore 4, 2) := dk_55 4 (dk_at dksJ30_getChars_1 13 rfl rfl)
theorem dJ30_getChars_39 : decode cJ30_getChars 39 = .ok (.lload 4, 2) := dk_22 4 (dk_at dksJ30_getChars_1 15 rfl rfl)
theorem dJ30_getChars_41 : decode cJ30_getChars 41 = .ok (.ldc2_w 131, 3) := dk_20 0 131 (dk_at dksJ30_getChars_1 17 rfl rfl)
theorem dJ30_getChars_44 : decode cJ30_getChars 44 = .ok (.lmul, 1) := dk_105 (dk_at dksJ30_getChars_1 20 rfl rfl)
theorem dJ30_getChars_45 : decode cJ30_getChars 45 = .ok (.lload_n 0, 1) := dk_30 (dk_at dksJ30_getChars_1 21 rfl rfl)
theorem dJ30_getChars_46 : decode cJ30_getChars 46 = .ok (.lsub, 1) := dk_101 (dk_at dksJ30_getChars_1 22 rfl rfl)
theorem dJ30_getChars_47 : decode cJ30_getChars 47 = .ok (.l2i, 1) := dk_136 (dk_at dksJ30_getChars_1 23 rfl rfl)
theorem dJ30_getChars_48 : decode cJ30_getChars 48 = .ok (.istore 6, 2) := dk_54 6 (dk_at dksJ30_getChars_2 0 rfl rfl)
theorem dJ30_getChars_50 : decode cJ30_getChars 50 = .ok (.lload 4, 2) := dk_22 4 (dk_at dksJ30_getChars_2 2 rfl rfl)
theorem dJ30_getChars_52 : decode cJ30_getChars 52 = .ok (.lstore_n 0, 1) := dk_63 (dk_at dksJ30_getChars_2 4 rfl rfl)
theorem dJ30_getChars_53 : decode cJ30_getChars 53 = .ok (.aload_n 3, 1) := dk_45 (dk_at dksJ30_getChars_2 5 rfl rfl)
theorem dJ30_getChars_54 : decode cJ30_getChars 54 = .ok (.iinc 7 (-1), 3) := dk_132 7 255 (dk_at dksJ30_getChars_2 6 rfl rfl)
theorem dJ30_getChars_57 : decode cJ30_getChars 57 = .ok (.iload 7, 2) := dk_21 7 (dk_at dksJ30_getChars_2 9 rfl rfl)
theorem dJ30_getChars_59 : decode cJ30_getChars 59 = .ok (.getstatic 133, 3) := dk_178 0 133 (dk_at dksJ30_getChars_2 11 rfl rfl)
theorem dJ30_getChars_62 : decode cJ30_getChars 62 = .ok (.iload 6, 2) := dk_21 6 (dk_at dksJ30_getChars_2 14 rfl rfl)
theorem dJ30_getChars_64 : decode cJ30_getChars 64 = .ok (.baload, 1) := dk_51 (dk_at dksJ30_getChars_2 16 rfl rfl)
theorem dJ30_getChars_65 : decode cJ30_getChars 65 = .ok (.bastore, 1) := dk_84 (dk_at dksJ30_getChars_2 17 rfl rfl)
theorem dJ30_getChars_66 : decode cJ30_getChars 66 = .ok (.aload_n 3, 1) := dk_45 (dk_at dksJ30_getChars_2 18 rfl rfl)
theorem dJ30_getChars_67 : decode cJ30_getChars 67 = .ok (.iinc 7 (-1), 3) := dk_132 7 255 (dk_at dksJ30_getChars_2 19 rfl rfl)
theorem dJ30_getChars_70 : decode cJ30_getChars 70 = .ok (.iload 7, 2) := dk_21 7 (dk_at dksJ30_getChars_2 22 rfl rfl)
theorem dJ30_getChars_72 : decode cJ30_getChars 72 = .ok (.getstatic 137, 3) := dk_178 0 137 (dk_at dksJ30_getChars_3 0 rfl rfl)
theorem dJ30_getChars_75 : decode cJ30_getChars 75 = .ok (.iload 6, 2) := dk_21 6 (dk_at dksJ30_getChars_3 3 rfl rfl)
theorem dJ30_getChars_77 : decode cJ30_getChars 77 = .ok (.baload, 1) := dk_51 (dk_at dksJ30_getChars_3 5 rfl rfl)
theorem dJ30_getChars_78 : decode cJ30_getChars 78 = .ok (.bastore, 1) := dk_84 (dk_at dksJ30_getChars_3 6 rfl rfl)
theorem dJ30_getChars_79 : decode cJ30_getChars 79 = .ok (.goto (-55), 3) := dk_167 255 201 (dk_at dksJ30_getChars_3 7 rfl rfl)
theorem dJ30_getChars_82 : decode cJ30_getChars 82 = .ok (.lload_n 0, 1) := dk_30 (dk_at dksJ30_getChars_3 10 rfl rfl)
theorem dJ30_getChars_83 : decode cJ30_getChars 83 = .ok (.l2i, 1) := dk_136 (dk_at dksJ30_getChars_3 11 rfl rfl)
theorem dJ30_getChars_84 : decode cJ30_getChars 84 = .ok (.istore 10, 2) := dk_54 10 (dk_at dksJ30_getChars_3 12 rfl rfl)
theorem dJ30_getChars_86 : decode cJ30_getChars 86 = .ok (.iload 10, 2) := dk_21 10 (dk_at dksJ30_getChars_3 14 rfl rfl)
theorem dJ30_getChars_88 : decode cJ30_getChars 88 = .ok (.bipush (-100), 2) := dk_16 156 (dk_at dksJ30_getChars_3 16 rfl rfl)
theorem dJ30_getChars_90 : decode cJ30_getChars 90 = .ok (.if_icmp .gt 53, 3) := dk_163 0 53 (dk_at dksJ30_getChars_3 18 rfl rfl)
theorem dJ30_getChars_93 : decode cJ30_getChars 93 = .ok (.iload 10, 2) := dk_21 10 (dk_at dksJ30_getChars_3 21 rfl rfl)
theorem dJ30_getChars_95 : decode cJ30_getChars 95 = .ok (.bipush 100, 2) := dk_16 100 (dk_at dksJ30_getChars_4 0 rfl rfl)
theorem dJ30_getChars_97 : decode cJ30_getChars 97 = .ok (.idiv, 1) := dk_108 (dk_at dksJ30_getChars_4 2 rfl rfl)
theorem dJ30_getChars_98 : decode cJ30_getChars 98 = .ok (.istore 9, 2) := dk_54 9 (dk_at dksJ30_getChars_4 3 rfl rfl)
theorem dJ30_getChars_100 : decode cJ30_getChars 100 = .ok (.iload 9, 2) := dk_21 9 (dk_at dksJ30_getChars_4 5 rfl rfl)
theorem dJ30_getChars_102 : decode cJ30_getChars 102 = .ok (.bipush 100, 2) := dk_16 100 (dk_at dksJ30_getChars_4 7 rfl rfl)
theorem dJ30_getChars_104 : decode cJ30_getChars 104 = .ok (.imul, 1) := dk_104 (dk_at dksJ30_getChars_4 9 rfl rfl)
theorem dJ30_getChars_105 : decode cJ30_getChars 105 = .ok (.iload 10, 2) := dk_21 10 (dk_at dksJ30_getChars_4 10 rfl rfl)
theorem dJ30_getChars_107 : decode cJ30_getChars 107 = .ok (.isub, 1) := dk_100 (dk_at dksJ30_getChars_4 12 rfl rfl)
theorem dJ30_getChars_108 : decode cJ30_getChars 108 = .ok (.istore 6, 2) := dk_54 6 (dk_at dksJ30_getChars_4 13 rfl rfl)
theorem dJ30_getChars_110 : decode cJ30_getChars 110 = .ok (.iload 9, 2) := dk_21 9 (dk_at dksJ30_getChars_4 15 rfl rfl)
theorem dJ30_getChars_112 : decode cJ30_getChars 112 = .ok (.istore 10, 2) := dk_54 10 (dk_at dksJ30_getChars_4 17 rfl rfl)
theorem dJ30_getChars_114 : decode cJ30_getChars 114 = .ok (.aload_n 3, 1) := dk_45 (dk_at dksJ30_getChars_4 19 rfl rfl)
theorem dJ30_getChars_115 : decode cJ30_getChars 115 = .ok (.iinc 7 (-1), 3) := dk_132 7 255 (dk_at dksJ30_getChars_4 20 rfl rfl)
theorem dJ30_getChars_118 : decode cJ30_getChars 118 = .ok (.iload 7, 2) := dk_21 7 (dk_at dksJ30_getChars_5 0 rfl rfl)
theorem dJ30_getChars_120 : decode cJ30_getChars 120 = .ok (.getstatic 133, 3) := dk_178 0 133 (dk_at dksJ30_getChars_5 2 rfl rfl)
theorem dJ30_getChars_123 : decode cJ30_getChars 123 = .ok (.iload 6, 2) := dk_21 6 (dk_at dksJ30_getChars_5 5 rfl rfl)
theorem dJ30_getChars_125 : decode cJ30_getChars 125 = .ok (.baload, 1) := dk_51 (dk_at dksJ30_getChars_5 7 rfl rfl)
theorem dJ30_getChars_126 : decode cJ30_getChars 126 = .ok (.bastore, 1) := dk_84 (dk_at dksJ30_getChars_5 8 rfl rfl)
theorem dJ30_getChars_127 : decode cJ30_getChars 127 = .ok (.aload_n 3, 1) := dk_45 (dk_at dksJ30_getChars_5 9 rfl rfl)
theorem dJ30_getChars_128 : decode cJ30_getChars 128 = .ok (.iinc 7 (-1), 3) := dk_132 7 255 (dk_at dksJ30_getChars_5 10 rfl rfl)
theorem dJ30_getChars_131 : decode cJ30_getChars 131 = .ok (.iload 7, 2) := dk_21 7 (dk_at dksJ30_getChars_5 13 rfl rfl)
theorem dJ30_getChars_133 : decode cJ30_getChars 133 = .ok (.getstatic 137, 3) := dk_178 0 137 (dk_at dksJ30_getChars_5 15 rfl rfl)
theorem dJ30_getChars_136 : decode cJ30_getChars 136 = .ok (.iload 6, 2) := dk_21 6 (dk_at dksJ30_getChars_5 18 rfl rfl)
theorem dJ30_getChars_138 : decode cJ30_getChars 138 = .ok (.baload, 1) := dk_51 (dk_at dksJ30_getChars_5 20 rfl rfl)
theorem dJ30_getChars_139 : decode cJ30_getChars 139 = .ok (.bastore, 1) := dk_84 (dk_at dksJ30_getChars_5 21 rfl rfl)
theorem dJ30_getChars_140 : decode cJ30_getChars 140 = .ok (.goto (-54), 3) := dk_167 255 202 (dk_at dksJ30_getChars_6 0 rfl rfl)
theorem dJ30_getChars_143 : decode cJ30_getChars 143 = .ok (.aload_n 3, 1) := dk_45 (dk_at dksJ30_getChars_6 3 rfl rfl)
theorem dJ30_getChars_144 : decode cJ30_getChars 144 = .ok (.iinc 7 (-1), 3) := dk_132 7 255 (dk_at dksJ30_getChars_6 4 rfl rfl)
theorem dJ30_getChars_147 : decode cJ30_getChars 147 = .ok (.iload 7, 2) := dk_21 7 (dk_at dksJ30_getChars_6 7 rfl rfl)
theorem dJ30_getChars_149 : decode cJ30_getChars 149 = .ok (.getstatic 133, 3) := dk_178 0 133 (dk_at dksJ30_getChars_6 9 rfl rfl)
theorem dJ30_getChars_152 : decode cJ30_getChars 152 = .ok (.iload 10, 2) := dk_21 10 (dk_at dksJ30_getChars_6 12 rfl rfl)
theorem dJ30_getChars_154 : decode cJ30_getChars 154 = .ok (.ineg, 1) := dk_116 (dk_at dksJ30_getChars_6 14 rfl rfl)
theorem dJ30_getChars_155 : decode cJ30_getChars 155 = .ok (.baload, 1) := dk_51 (dk_at dksJ30_getChars_6 15 rfl rfl)
theorem dJ30_getChars_156 : decode cJ30_getChars 156 = .ok (.bastore, 1) := dk_84 (dk_at dksJ30_getChars_6 16 rfl rfl)
theorem dJ30_getChars_157 : decode cJ30_getChars 157 = .ok (.iload 10, 2) := dk_21 10 (dk_at dksJ30_getChars_6 17 rfl rfl)
theorem dJ30_getChars_159 : decode cJ30_getChars 159 = .ok (.bipush (-9), 2) := dk_16 247 (dk_at dksJ30_getChars_6 19 rfl rfl)
theorem dJ30_getChars_161 : decode cJ30_getChars 161 = .ok (.if_icmp .ge 17, 3) := dk_162 0 17 (dk_at dksJ30_getChars_6 21 rfl rfl)
theorem dJ30_getChars_164 : decode cJ30_getChars 164 = .ok (.aload_n 3, 1) := dk_45 (dk_at dksJ30_getChars_7 0 rfl rfl)
theorem dJ30_getChars_165 : decode cJ30_getChars 165 = .ok (.iinc 7 (-1), 3) := dk_132 7 255 (dk_at dksJ30_getChars_7 1 rfl rfl)
theorem dJ30_getChars_168 : decode cJ30_getChars 168 = .ok (.iload 7, 2) := dk_21 7 (dk_at dksJ30_getChars_7 4 rfl rfl)
theorem dJ30_getChars_170 : decode cJ30_getChars 170 = .ok (.getstatic 137, 3) := dk_178 0 137 (dk_at dksJ30_getChars_7 6 rfl rfl)
theorem dJ30_getChars_173 : decode cJ30_getChars 173 = .ok (.iload 10, 2) := dk_21 10 (dk_at dksJ30_getChars_7 9 rfl rfl)
theorem dJ30_getChars_175 : decode cJ30_getChars 175 = .ok (.ineg, 1) := dk_116 (dk_at dksJ30_getChars_7 11 rfl rfl)
theorem dJ30_getChars_176 : decode cJ30_getChars 176 = .ok (.baload, 1) := dk_51 (dk_at dksJ30_getChars_7 12 rfl rfl)
theorem dJ30_getChars_177 : decode cJ30_getChars 177 = .ok (.bastore, 1) := dk_84 (dk_at dksJ30_getChars_7 13 rfl rfl)
theorem dJ30_getChars_178 : decode cJ30_getChars 178 = .ok (.iload 8, 2) := dk_21 8 (dk_at dksJ30_getChars_7 14 rfl rfl)
theorem dJ30_getChars_180 : decode cJ30_getChars 180 = .ok (.ifCond .eq 12, 3) := dk_153 0 12 (dk_at dksJ30_getChars_7 16 rfl rfl)
theorem dJ30_getChars_183 : decode cJ30_getChars 183 = .ok (.aload_n 3, 1) := dk_45 (dk_at dksJ30_getChars_7 19 rfl rfl)
theorem dJ30_getChars_184 : decode cJ30_getChars 184 = .ok (.iinc 7 (-1), 3) := dk_132 7 255 (dk_at dksJ30_getChars_7 20 rfl rfl)
theorem dJ30_getChars_187 : decode cJ30_getChars 187 = .ok (.iload 7, 2) := dk_21 7 (dk_at dksJ30_getChars_8 0 rfl rfl)
theorem dJ30_getChars_189 : decode cJ30_getChars 189 = .ok (.bipush 45, 2) := dk_16 45 (dk_at dksJ30_getChars_8 2 rfl rfl)
theorem dJ30_getChars_191 : decode cJ30_getChars 191 = .ok (.bastore, 1) := dk_84 (dk_at dksJ30_getChars_8 4 rfl rfl)
theorem dJ30_getChars_192 : decode cJ30_getChars 192 = .ok (.iload 7, 2) := dk_21 7 (dk_at dksJ30_getChars_8 5 rfl rfl)
theorem dJ30_getChars_194 : decode cJ30_getChars 194 = .ok (.ireturn, 1) := dk_172 (dk_at dksJ30_getChars_8 7 rfl rfl)
abbrev cJ30_toString : ByteArray := prog_81_method_12_code
def yJ30_toString : MethodName := ⟨RJ30, "toString", "(J)Ljava/lang/String;"⟩
def dkwJ30_toString_2 : List UInt8 := [187, 0, 5, 89, 45, 4, 183, 0, 112, 176]
abbrev dktJ30_toString_2 : List UInt8 := dkwJ30_toString_2 ++ []
def dkwJ30_toString_1 : List UInt8 := [187, 0, 5, 89, 45, 3, 183, 0, 112, 176, 28, 5, 104, 188, 8, 78, 30, 28, 45, 184, 0, 125, 87]
abbrev dktJ30_toString_1 : List UInt8 := dkwJ30_toString_1 ++ dktJ30_toString_2
def dkwJ30_toString_0 : List UInt8 := [30, 184, 0, 118, 61, 178, 0, 13, 153, 0, 24, 28, 188, 8, 78, 30, 28, 45, 184, 0, 121, 87]
abbrev dktJ30_toString_0 : List UInt8 := dkwJ30_toString_0 ++ dktJ30_toString_1
theorem dksJ30_toString_0 : cJ30_toString.data.toList.drop 0 = dktJ30_toString_0 := by decide +kernel
theorem dksJ30_toString_1 : cJ30_toString.data.toList.drop 22 = dktJ30_toString_1 := dk_seg dksJ30_toString_0 22 rfl rfl
theorem dksJ30_toString_2 : cJ30_toString.data.toList.drop 45 = dktJ30_toString_2 := dk_seg dksJ30_toString_1 23 rfl rfl
theorem dJ30_toString_0 : decode cJ30_toString 0 = .ok (.lload_n 0, 1) := dk_30 (dk_at dksJ30_toString_0 0 rfl rfl)
theorem dJ30_toString_1 : decode cJ30_toString 1 = .ok (.invokestatic 118, 3) := dk_184 0 118 (dk_at dksJ30_toString_0 1 rfl rfl)
theorem dJ30_toString_4 : decode cJ30_toString 4 = .ok (.istore_n 2, 1) := dk_61 (dk_at dksJ30_toString_0 4 rfl rfl)
theorem dJ30_toString_5 : decode cJ30_toString 5 = .ok (.getstatic 13, 3) := dk_178 0 13 (dk_at dksJ30_toString_0 5 rfl rfl)
theorem dJ30_toString_8 : decode cJ30_toString 8 = .ok (.ifCond .eq 24, 3) := dk_153 0 24 (dk_at dksJ30_toString_0 8 rfl rfl)
theorem dJ30_toString_11 : decode cJ30_toString 11 = .ok (.iload_n 2, 1) := dk_28 (dk_at dksJ30_toString_0 11 rfl rfl)
theorem dJ30_toString_12 : decode cJ30_toString 12 = .ok (.newarray .byte, 2) := dk_188_8 (dk_at dksJ30_toString_0 12 rfl rfl)
theorem dJ30_toString_14 : decode cJ30_toString 14 = .ok (.astore_n 3, 1) := dk_78 (dk_at dksJ30_toString_0 14 rfl rfl)
theorem dJ30_toString_15 : decode cJ30_toString 15 = .ok (.lload_n 0, 1) := dk_30 (dk_at dksJ30_toString_0 15 rfl rfl)
theorem dJ30_toString_16 : decode cJ30_toString 16 = .ok (.iload_n 2, 1) := dk_28 (dk_at dksJ30_toString_0 16 rfl rfl)
theorem dJ30_toString_17 : decode cJ30_toString 17 = .ok (.aload_n 3, 1) := dk_45 (dk_at dksJ30_toString_0 17 rfl rfl)
theorem dJ30_toString_18 : decode cJ30_toString 18 = .ok (.invokestatic 121, 3) := dk_184 0 121 (dk_at dksJ30_toString_0 18 rfl rfl)
theorem dJ30_toString_21 : decode cJ30_toString 21 = .ok (.pop, 1) := dk_87 (dk_at dksJ30_toString_0 21 rfl rfl)
theorem dJ30_toString_22 : decode cJ30_toString 22 = .ok (.new 5, 3) := dk_187 0 5 (dk_at dksJ30_toString_1 0 rfl rfl)
theorem dJ30_toString_25 : decode cJ30_toString 25 = .ok (.dup, 1) := dk_89 (dk_at dksJ30_toString_1 3 rfl rfl)
theorem dJ30_toString_26 : decode cJ30_toString 26 = .ok (.aload_n 3, 1) := dk_45 (dk_at dksJ30_toString_1 4 rfl rfl)
theorem dJ30_toString_27 : decode cJ30_toString 27 = .ok (.iconst 0, 1) := dk_3 (dk_at dksJ30_toString_1 5 rfl rfl)
theorem dJ30_toString_28 : decode cJ30_toString 28 = .ok (.invokespecial 112, 3) := dk_183 0 112 (dk_at dksJ30_toString_1 6 rfl rfl)
theorem dJ30_toString_31 : decode cJ30_toString 31 = .ok (.areturn, 1) := dk_176 (dk_at dksJ30_toString_1 9 rfl rfl)
theorem dJ30_toString_32 : decode cJ30_toString 32 = .ok (.iload_n 2, 1) := dk_28 (dk_at dksJ30_toString_1 10 rfl rfl)
theorem dJ30_toString_33 : decode cJ30_toString 33 = .ok (.iconst 2, 1) := dk_5 (dk_at dksJ30_toString_1 11 rfl rfl)
theorem dJ30_toString_34 : decode cJ30_toString 34 = .ok (.imul, 1) := dk_104 (dk_at dksJ30_toString_1 12 rfl rfl)
theorem dJ30_toString_35 : decode cJ30_toString 35 = .ok (.newarray .byte, 2) := dk_188_8 (dk_at dksJ30_toString_1 13 rfl rfl)
theorem dJ30_toString_37 : decode cJ30_toString 37 = .ok (.astore_n 3, 1) := dk_78 (dk_at dksJ30_toString_1 15 rfl rfl)
theorem dJ30_toString_38 : decode cJ30_toString 38 = .ok (.lload_n 0, 1) := dk_30 (dk_at dksJ30_toString_1 16 rfl rfl)
theorem dJ30_toString_39 : decode cJ30_toString 39 = .ok (.iload_n 2, 1) := dk_28 (dk_at dksJ30_toString_1 17 rfl rfl)
theorem dJ30_toString_40 : decode cJ30_toString 40 = .ok (.aload_n 3, 1) := dk_45 (dk_at dksJ30_toString_1 18 rfl rfl)
theorem dJ30_toString_41 : decode cJ30_toString 41 = .ok (.invokestatic 125, 3) := dk_184 0 125 (dk_at dksJ30_toString_1 19 rfl rfl)
theorem dJ30_toString_44 : decode cJ30_toString 44 = .ok (.pop, 1) := dk_87 (dk_at dksJ30_toString_1 22 rfl rfl)
theorem dJ30_toString_45 : decode cJ30_toString 45 = .ok (.new 5, 3) := dk_187 0 5 (dk_at dksJ30_toString_2 0 rfl rfl)
theorem dJ30_toString_48 : decode cJ30_toString 48 = .ok (.dup, 1) := dk_89 (dk_at dksJ30_toString_2 3 rfl rfl)
theorem dJ30_toString_49 : decode cJ30_toString 49 = .ok (.aload_n 3, 1) := dk_45 (dk_at dksJ30_toString_2 4 rfl rfl)
theorem dJ30_toString_50 : decode cJ30_toString 50 = .ok (.iconst 1, 1) := dk_4 (dk_at dksJ30_toString_2 5 rfl rfl)
theorem dJ30_toString_51 : decode cJ30_toString 51 = .ok (.invokespecial 112, 3) := dk_183 0 112 (dk_at dksJ30_toString_2 6 rfl rfl)
theorem dJ30_toString_54 : decode cJ30_toString 54 = .ok (.areturn, 1) := dk_176 (dk_at dksJ30_toString_2 9 rfl rfl)
theorem q485 : (Jvm.Cond.initialized "java/lang/Long") ∈ lw_all := lw_g (lw_at lw_m1 93 rfl) rfl
theorem q2038 : (Jvm.Cond.selects "java/lang/Long" ({ cls := "java/lang/Object", name := "getClass", desc := "()Ljava/lang/Class;" } : Jvm.MethodName) ({ cls := "java/lang/Object", name := "getClass", desc := "()Ljava/lang/Class;" } : Jvm.MethodName)) ∈ lw_all := lw_g (lw_at lw_m7 206 rfl) rfl
theorem q3155 : (Jvm.Cond.selects "java/lang/Long" ({ cls := "java/lang/Object", name := "equals", desc := "(Ljava/lang/Object;)Z" } : Jvm.MethodName) ({ cls := "java/lang/Long", name := "equals", desc := "(Ljava/lang/Object;)Z" } : Jvm.MethodName)) ∈ lw_all := lw_g (lw_at lw_m12 123 rfl) rfl
theorem q3156 : (Jvm.Cond.instanceMethod ({ cls := "java/lang/Long", name := "equals", desc := "(Ljava/lang/Object;)Z" } : Jvm.MethodName)) ∈ lw_all := lw_g (lw_at lw_m12 124 rfl) rfl
theorem q3157 : (Jvm.Cond.code ({ cls := "java/lang/Long", name := "equals", desc := "(Ljava/lang/Object;)Z" } : Jvm.MethodName) prog_81_method_37_code (2 : Nat) (Option.some Jvm.ClassFile.FieldType.boolean)) ∈ lw_all := lw_g (lw_at lw_m12 125 rfl) rfl
theorem q3158 : (Jvm.Cond.classLink "java/lang/Long" (1 : Nat) "java/lang/Long") ∈ lw_all := lw_g (lw_at lw_m12 126 rfl) rfl
theorem q3159 : (Jvm.Cond.methodLink "java/lang/Long" (280 : Nat) ({ cls := "java/lang/Long", name := "longValue", desc := "()J" } : Jvm.MethodName)) ∈ lw_all := lw_g (lw_at lw_m12 127 rfl) rfl
theorem q3160 : (Jvm.Cond.instanceMethod ({ cls := "java/lang/Long", name := "longValue", desc := "()J" } : Jvm.MethodName)) ∈ lw_all := lw_g (lw_at lw_m12 128 rfl) rfl
theorem q3161 : (Jvm.Cond.selects "java/lang/Long" ({ cls := "java/lang/Long", name := "longValue", desc := "()J" } : Jvm.MethodName) ({ cls := "java/lang/Long", name := "longValue", desc := "()J" } : Jvm.MethodName)) ∈ lw_all := lw_g (lw_at lw_m12 129 rfl) rfl
theorem q3162 : (Jvm.Cond.code ({ cls := "java/lang/Long", name := "longValue", desc := "()J" } : Jvm.MethodName) prog_81_method_31_code (1 : Nat) (Option.some Jvm.ClassFile.FieldType.long)) ∈ lw_all := lw_g (lw_at lw_m12 130 rfl) rfl
theorem q3671 : (Jvm.Cond.selects "java/lang/Long" ({ cls := "java/lang/Object", name := "hashCode", desc := "()I" } : Jvm.MethodName) ({ cls := "java/lang/Long", name := "hashCode", desc := "()I" } : Jvm.MethodName)) ∈ lw_all := lw_g (lw_at lw_m14 159 rfl) rfl
theorem q3672 : (Jvm.Cond.instanceMethod ({ cls := "java/lang/Long", name := "hashCode", desc := "()I" } : Jvm.MethodName)) ∈ lw_all := lw_g (lw_at lw_m14 160 rfl) rfl
theorem q3673 : (Jvm.Cond.code ({ cls := "java/lang/Long", name := "hashCode", desc := "()I" } : Jvm.MethodName) prog_81_method_35_code (1 : Nat) (Option.some Jvm.ClassFile.FieldType.int)) ∈ lw_all := lw_g (lw_at lw_m14 161 rfl) rfl
theorem q3674 : (Jvm.Cond.methodLink "java/lang/Long" (277 : Nat) ({ cls := "java/lang/Long", name := "hashCode", desc := "(J)I" } : Jvm.MethodName)) ∈ lw_all := lw_g (lw_at lw_m14 162 rfl) rfl
theorem q3675 : (Jvm.Cond.static ({ cls := "java/lang/Long", name := "hashCode", desc := "(J)I" } : Jvm.MethodName)) ∈ lw_all := lw_g (lw_at lw_m14 163 rfl) rfl
theorem q3676 : (Jvm.Cond.code ({ cls := "java/lang/Long", name := "hashCode", desc := "(J)I" } : Jvm.MethodName) prog_81_method_36_code (2 : Nat) (Option.some Jvm.ClassFile.FieldType.int)) ∈ lw_all := lw_g (lw_at lw_m14 164 rfl) rfl
theorem q3851 : (Jvm.Cond.castable "java/lang/Long" "java/lang/Comparable") ∈ lw_tbl := lw_at lw_m15 99 rfl
theorem q3852 : (Jvm.Cond.selects "java/lang/Long" ({ cls := "java/lang/Comparable", name := "compareTo", desc := "(Ljava/lang/Object;)I" } : Jvm.MethodName) ({ cls := "java/lang/Long", name := "compareTo", desc := "(Ljava/lang/Object;)I" } : Jvm.MethodName)) ∈ lw_all := lw_g (lw_at lw_m15 100 rfl) rfl
theorem q3853 : (Jvm.Cond.unhidden "java/lang/Long" "compareTo" "(Ljava/lang/Object;)I") ∈ lw_tbl := lw_at lw_m15 101 rfl
theorem q3854 : (Jvm.Cond.instanceMethod ({ cls := "java/lang/Long", name := "compareTo", desc := "(Ljava/lang/Object;)I" } : Jvm.MethodName)) ∈ lw_all := lw_g (lw_at lw_m15 102 rfl) rfl
theorem q3855 : (Jvm.Cond.publicMethod ({ cls := "java/lang/Long", name := "compareTo", desc := "(Ljava/lang/Object;)I" } : Jvm.MethodName)) ∈ lw_tbl := lw_at lw_m15 103 rfl
theorem q3856 : (Jvm.Cond.code ({ cls := "java/lang/Long", name := "compareTo", desc := "(Ljava/lang/Object;)I" } : Jvm.MethodName) prog_81_method_64_code (2 : Nat) (Option.some Jvm.ClassFile.FieldType.int)) ∈ lw_all := lw_g (lw_at lw_m15 104 rfl) rfl
theorem q3857 : (Jvm.Cond.methodLink "java/lang/Long" (343 : Nat) ({ cls := "java/lang/Long", name := "compareTo", desc := "(Ljava/lang/Long;)I" } : Jvm.MethodName)) ∈ lw_all := lw_g (lw_at lw_m15 105 rfl) rfl
theorem q3858 : (Jvm.Cond.instanceMethod ({ cls := "java/lang/Long", name := "compareTo", desc := "(Ljava/lang/Long;)I" } : Jvm.MethodName)) ∈ lw_all := lw_g (lw_at lw_m15 106 rfl) rfl
theorem q3859 : (Jvm.Cond.selects "java/lang/Long" ({ cls := "java/lang/Long", name := "compareTo", desc := "(Ljava/lang/Long;)I" } : Jvm.MethodName) ({ cls := "java/lang/Long", name := "compareTo", desc := "(Ljava/lang/Long;)I" } : Jvm.MethodName)) ∈ lw_all := lw_g (lw_at lw_m15 107 rfl) rfl
theorem q3860 : (Jvm.Cond.code ({ cls := "java/lang/Long", name := "compareTo", desc := "(Ljava/lang/Long;)I" } : Jvm.MethodName) prog_81_method_41_code (2 : Nat) (Option.some Jvm.ClassFile.FieldType.int)) ∈ lw_all := lw_g (lw_at lw_m15 108 rfl) rfl
theorem q3861 : (Jvm.Cond.methodLink "java/lang/Long" (302 : Nat) ({ cls := "java/lang/Long", name := "compare", desc := "(JJ)I" } : Jvm.MethodName)) ∈ lw_all := lw_g (lw_at lw_m15 109 rfl) rfl
theorem q3862 : (Jvm.Cond.static ({ cls := "java/lang/Long", name := "compare", desc := "(JJ)I" } : Jvm.MethodName)) ∈ lw_all := lw_g (lw_at lw_m15 110 rfl) rfl
theorem q3863 : (Jvm.Cond.code ({ cls := "java/lang/Long", name := "compare", desc := "(JJ)I" } : Jvm.MethodName) prog_81_method_42_code (4 : Nat) (Option.some Jvm.ClassFile.FieldType.int)) ∈ lw_all := lw_g (lw_at lw_m15 111 rfl) rfl
theorem q3950 : (Jvm.Cond.static ({ cls := "java/lang/Long", name := "numberOfLeadingZeros", desc := "(J)I" } : Jvm.MethodName)) ∈ lw_all := lw_g (lw_at lw_m15 198 rfl) rfl
theorem q3951 : (Jvm.Cond.code ({ cls := "java/lang/Long", name := "numberOfLeadingZeros", desc := "(J)I" } : Jvm.MethodName) prog_81_method_48_code (3 : Nat) (Option.some Jvm.ClassFile.FieldType.int)) ∈ lw_all := lw_g (lw_at lw_m15 199 rfl) rfl
theorem q3952 : (Jvm.Cond.methodLink "java/lang/Long" (308 : Nat) ({ cls := "java/lang/Integer", name := "numberOfLeadingZeros", desc := "(I)I" } : Jvm.MethodName)) ∈ lw_all := lw_g (lw_at lw_m15 200 rfl) rfl
theorem q3958 : (Jvm.Cond.static ({ cls := "java/lang/Long", name := "numberOfTrailingZeros", desc := "(J)I" } : Jvm.MethodName)) ∈ lw_all := lw_g (lw_at lw_m15 206 rfl) rfl
theorem q3959 : (Jvm.Cond.code ({ cls := "java/lang/Long", name := "numberOfTrailingZeros", desc := "(J)I" } : Jvm.MethodName) prog_81_method_49_code (3 : Nat) (Option.some Jvm.ClassFile.FieldType.int)) ∈ lw_all := lw_g (lw_at lw_m15 207 rfl) rfl
theorem q3960 : (Jvm.Cond.methodLink "java/lang/Long" (311 : Nat) ({ cls := "java/lang/Integer", name := "numberOfTrailingZeros", desc := "(I)I" } : Jvm.MethodName)) ∈ lw_all := lw_g (lw_at lw_m15 208 rfl) rfl
theorem q4193 : (Jvm.Cond.static ({ cls := "java/lang/Long", name := "valueOf", desc := "(J)Ljava/lang/Long;" } : Jvm.MethodName)) ∈ lw_all := lw_g (lw_at lw_m16 201 rfl) rfl
theorem q4194 : (Jvm.Cond.code ({ cls := "java/lang/Long", name := "valueOf", desc := "(J)Ljava/lang/Long;" } : Jvm.MethodName) prog_81_method_24_code (3 : Nat) (Option.some (Jvm.ClassFile.FieldType.object "java/lang/Long"))) ∈ lw_all := lw_g (lw_at lw_m16 202 rfl) rfl
theorem q4195 : (Jvm.Cond.constantLong "java/lang/Long" (230 : Nat) (-128 : Int64)) ∈ lw_all := lw_g (lw_at lw_m16 203 rfl) rfl
theorem q4196 : (Jvm.Cond.constantLong "java/lang/Long" (232 : Nat) (127 : Int64)) ∈ lw_all := lw_g (lw_at lw_m16 204 rfl) rfl
theorem q4197 : (Jvm.Cond.fieldLink "java/lang/Long" (234 : Nat) "java/lang/Long$LongCache" "cache" "[Ljava/lang/Long;") ∈ lw_all := lw_g (lw_at lw_m16 205 rfl) rfl
theorem q4199 : (Jvm.Cond.instantiable "java/lang/Long" (1 : Nat)) ∈ lw_all := lw_g (lw_at lw_m16 207 rfl) rfl
theorem q4200 : (Jvm.Cond.methodLink "java/lang/Long" (240 : Nat) ({ cls := "java/lang/Long", name := "<init>", desc := "(J)V" } : Jvm.MethodName)) ∈ lw_all := lw_g (lw_at lw_m16 208 rfl) rfl
theorem q4201 : (Jvm.Cond.instanceMethod ({ cls := "java/lang/Long", name := "<init>", desc := "(J)V" } : Jvm.MethodName)) ∈ lw_all := lw_g (lw_at lw_m16 209 rfl) rfl
theorem q4202 : (Jvm.Cond.code ({ cls := "java/lang/Long", name := "<init>", desc := "(J)V" } : Jvm.MethodName) prog_81_method_26_code (3 : Nat) (Option.none : Option Jvm.ClassFile.FieldType)) ∈ lw_all := lw_g (lw_at lw_m16 210 rfl) rfl
theorem q4203 : (Jvm.Cond.methodLink "java/lang/Long" (270 : Nat) ({ cls := "java/lang/Number", name := "<init>", desc := "()V" } : Jvm.MethodName)) ∈ lw_all := lw_g (lw_at lw_m16 211 rfl) rfl
theorem q4204 : (Jvm.Cond.fieldLink "java/lang/Long" (273 : Nat) "java/lang/Long" "value" "J") ∈ lw_all := lw_g (lw_at lw_m16 212 rfl) rfl
theorem q4205 : (Jvm.Cond.laysFinal "java/lang/Long" "java/lang/Long" "value" "J") ∈ lw_all := lw_g (lw_at lw_m16 213 rfl) rfl
theorem q4206 : (Jvm.Cond.soleField "java/lang/Long" "value") ∈ lw_all := lw_g (lw_at lw_m16 214 rfl) rfl
theorem q4207 : (Jvm.Cond.superclass "java/lang/Long" "java/lang/Number") ∈ lw_all := lw_g (lw_at lw_m16 215 rfl) rfl
theorem q5453 : (Jvm.Cond.static ({ cls := "java/lang/Long", name := "signum", desc := "(J)I" } : Jvm.MethodName)) ∈ lw_all := lw_g (lw_at lw_m22 21 rfl) rfl
theorem q5454 : (Jvm.Cond.code ({ cls := "java/lang/Long", name := "signum", desc := "(J)I" } : Jvm.MethodName) prog_81_method_57_code (2 : Nat) (Option.some Jvm.ClassFile.FieldType.int)) ∈ lw_all := lw_g (lw_at lw_m22 22 rfl) rfl
theorem q6545 : (Jvm.Cond.static ({ cls := "java/lang/Long", name := "stringSize", desc := "(J)I" } : Jvm.MethodName)) ∈ lw_all := lw_g (lw_at lw_m26 153 rfl) rfl
theorem q6546 : (Jvm.Cond.code ({ cls := "java/lang/Long", name := "stringSize", desc := "(J)I" } : Jvm.MethodName) prog_81_method_15_code (6 : Nat) (Option.some Jvm.ClassFile.FieldType.int)) ∈ lw_all := lw_g (lw_at lw_m26 154 rfl) rfl
theorem q6547 : (Jvm.Cond.constantLong "java/lang/Long" (140 : Nat) (-10 : Int64)) ∈ lw_all := lw_g (lw_at lw_m26 155 rfl) rfl
theorem q6548 : (Jvm.Cond.constantLong "java/lang/Long" (53 : Nat) (10 : Int64)) ∈ lw_all := lw_g (lw_at lw_m26 156 rfl) rfl
theorem q6550 : (Jvm.Cond.static ({ cls := "java/lang/Long", name := "getChars", desc := "(JI[B)I" } : Jvm.MethodName)) ∈ lw_all := lw_g (lw_at lw_m26 158 rfl) rfl
theorem q6551 : (Jvm.Cond.code ({ cls := "java/lang/Long", name := "getChars", desc := "(JI[B)I" } : Jvm.MethodName) prog_81_method_14_code (11 : Nat) (Option.some Jvm.ClassFile.FieldType.int)) ∈ lw_all := lw_g (lw_at lw_m26 159 rfl) rfl
theorem q6552 : (Jvm.Cond.constantLong "java/lang/Long" (129 : Nat) (-2147483648 : Int64)) ∈ lw_all := lw_g (lw_at lw_m26 160 rfl) rfl
theorem q6553 : (Jvm.Cond.constantLong "java/lang/Long" (131 : Nat) (100 : Int64)) ∈ lw_all := lw_g (lw_at lw_m26 161 rfl) rfl
theorem q6554 : (Jvm.Cond.fieldLink "java/lang/Long" (133 : Nat) "java/lang/Integer" "DigitOnes" "[B") ∈ lw_all := lw_g (lw_at lw_m26 162 rfl) rfl
theorem q6555 : (Jvm.Cond.fieldLink "java/lang/Long" (137 : Nat) "java/lang/Integer" "DigitTens" "[B") ∈ lw_all := lw_g (lw_at lw_m26 163 rfl) rfl
theorem q6606 : (Jvm.Cond.static ({ cls := "java/lang/Long", name := "toString", desc := "(J)Ljava/lang/String;" } : Jvm.MethodName)) ∈ lw_all := lw_g (lw_at lw_m26 214 rfl) rfl
theorem q6607 : (Jvm.Cond.code ({ cls := "java/lang/Long", name := "toString", desc := "(J)Ljava/lang/String;" } : Jvm.MethodName) prog_81_method_12_code (4 : Nat) (Option.some (Jvm.ClassFile.FieldType.object "java/lang/String"))) ∈ lw_all := lw_g (lw_at lw_m26 215 rfl) rfl
theorem q6608 : (Jvm.Cond.methodLink "java/lang/Long" (118 : Nat) ({ cls := "java/lang/Long", name := "stringSize", desc := "(J)I" } : Jvm.MethodName)) ∈ lw_all := lw_g (lw_at lw_m26 216 rfl) rfl
theorem q6609 : (Jvm.Cond.fieldLink "java/lang/Long" (13 : Nat) "java/lang/String" "COMPACT_STRINGS" "Z") ∈ lw_all := lw_g (lw_at lw_m26 217 rfl) rfl
theorem q6610 : (Jvm.Cond.methodLink "java/lang/Long" (121 : Nat) ({ cls := "java/lang/Long", name := "getChars", desc := "(JI[B)I" } : Jvm.MethodName)) ∈ lw_all := lw_g (lw_at lw_m26 218 rfl) rfl
theorem q6611 : (Jvm.Cond.classLink "java/lang/Long" (5 : Nat) "java/lang/String") ∈ lw_all := lw_g (lw_at lw_m26 219 rfl) rfl
theorem q6612 : (Jvm.Cond.methodLink "java/lang/Long" (112 : Nat) ({ cls := "java/lang/String", name := "<init>", desc := "([BB)V" } : Jvm.MethodName)) ∈ lw_all := lw_g (lw_at lw_m26 220 rfl) rfl
theorem q6615 : (Jvm.Cond.methodLink "java/lang/Long" (125 : Nat) ({ cls := "java/lang/StringUTF16", name := "getChars", desc := "(JI[B)I" } : Jvm.MethodName)) ∈ lw_all := lw_g (lw_at lw_m26 223 rfl) rfl
theorem q9693 : (Jvm.Cond.castable "java/lang/Long" "java/lang/Object") ∈ lw_tbl := lw_at lw_m39 181 rfl
theorem in_J30 : ∀ w ∈ wsJ300, w ∈ lw_all := lw_in wsJ300 [4205] (by decide +kernel) (by decide +kernel)
