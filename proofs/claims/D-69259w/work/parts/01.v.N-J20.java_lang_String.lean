/-! java/lang/String -/
set_option maxRecDepth 100000
def RJ20 : String := "java/lang/String"
def TJ20 : u_T := fun k => match k with
  | 0 => ("java/lang/String", "value", "[B", true)
  | 1 => ("java/lang/String", "coder", "B", true)
  | 2 => ("java/lang/String", "hash", "I", false)
  | _ => ("java/lang/String", "hashIsZero", "Z", false)
def tyJ20 : Nat → FieldType := fun k => match k with
  | 0 => .array .byte
  | 1 => .byte
  | 2 => .int
  | _ => .boolean
abbrev wsJ200 : List Cond := u_ws RJ20 TJ20 4
theorem nmJ20 : ∀ a, a < 4 → ∀ b, b < 4 → a ≠ b → (TJ20 a).2.1 ≠ (TJ20 b).2.1 := by decide +kernel
theorem tyJ20_ok : ∀ k, k < 4 → parseFieldDescriptor (TJ20 k).2.2.1 = some (tyJ20 k) := by decide +kernel
abbrev cJ20_checkBoundsOffCount : ByteArray := prog_86_method_157_code
def yJ20_checkBoundsOffCount : MethodName := ⟨RJ20, "checkBoundsOffCount", "(III)I"⟩
def dkwJ20_checkBoundsOffCount_0 : List UInt8 := [26, 27, 28, 178, 4, 29, 184, 4, 41, 172]
abbrev dktJ20_checkBoundsOffCount_0 : List UInt8 := dkwJ20_checkBoundsOffCount_0 ++ []
theorem dksJ20_checkBoundsOffCount_0 : cJ20_checkBoundsOffCount.data.toList.drop 0 = dktJ20_checkBoundsOffCount_0 := by decide +kernel
theorem dJ20_checkBoundsOffCount_0 : decode cJ20_checkBoundsOffCount 0 = .ok (.iload_n 0, 1) := dk_26 (dk_at dksJ20_checkBoundsOffCount_0 0 rfl rfl)
theorem dJ20_checkBoundsOffCount_1 : decode cJ20_checkBoundsOffCount 1 = .ok (.iload_n 1, 1) := dk_27 (dk_at dksJ20_checkBoundsOffCount_0 1 rfl rfl)
theorem dJ20_checkBoundsOffCount_2 : decode cJ20_checkBoundsOffCount 2 = .ok (.iload_n 2, 1) := dk_28 (dk_at dksJ20_checkBoundsOffCount_0 2 rfl rfl)
theorem dJ20_checkBoundsOffCount_3 : decode cJ20_checkBoundsOffCount 3 = .ok (.getstatic 1053, 3) := dk_178 4 29 (dk_at dksJ20_checkBoundsOffCount_0 3 rfl rfl)
theorem dJ20_checkBoundsOffCount_6 : decode cJ20_checkBoundsOffCount 6 = .ok (.invokestatic 1065, 3) := dk_184 4 41 (dk_at dksJ20_checkBoundsOffCount_0 6 rfl rfl)
theorem dJ20_checkBoundsOffCount_9 : decode cJ20_checkBoundsOffCount 9 = .ok (.ireturn, 1) := dk_172 (dk_at dksJ20_checkBoundsOffCount_0 9 rfl rfl)
abbrev cJ20_checkIndex : ByteArray := prog_86_method_155_code
def yJ20_checkIndex : MethodName := ⟨RJ20, "checkIndex", "(II)V"⟩
def dkwJ20_checkIndex_0 : List UInt8 := [26, 27, 178, 4, 29, 184, 4, 35, 87, 177]
abbrev dktJ20_checkIndex_0 : List UInt8 := dkwJ20_checkIndex_0 ++ []
theorem dksJ20_checkIndex_0 : cJ20_checkIndex.data.toList.drop 0 = dktJ20_checkIndex_0 := by decide +kernel
theorem dJ20_checkIndex_0 : decode cJ20_checkIndex 0 = .ok (.iload_n 0, 1) := dk_26 (dk_at dksJ20_checkIndex_0 0 rfl rfl)
theorem dJ20_checkIndex_1 : decode cJ20_checkIndex 1 = .ok (.iload_n 1, 1) := dk_27 (dk_at dksJ20_checkIndex_0 1 rfl rfl)
theorem dJ20_checkIndex_2 : decode cJ20_checkIndex 2 = .ok (.getstatic 1053, 3) := dk_178 4 29 (dk_at dksJ20_checkIndex_0 2 rfl rfl)
theorem dJ20_checkIndex_5 : decode cJ20_checkIndex 5 = .ok (.invokestatic 1059, 3) := dk_184 4 35 (dk_at dksJ20_checkIndex_0 5 rfl rfl)
theorem dJ20_checkIndex_8 : decode cJ20_checkIndex 8 = .ok (.pop, 1) := dk_87 (dk_at dksJ20_checkIndex_0 8 rfl rfl)
theorem dJ20_checkIndex_9 : decode cJ20_checkIndex 9 = .ok (.return_, 1) := dk_177 (dk_at dksJ20_checkIndex_0 9 rfl rfl)
abbrev cJ20_init : ByteArray := prog_86_method_53_code
def yJ20_init : MethodName := ⟨RJ20, "<init>", "(Ljava/lang/StringBuilder;)V"⟩
def dkwJ20_init_0 : List UInt8 := [42, 43, 1, 183, 1, 233, 177]
abbrev dktJ20_init_0 : List UInt8 := dkwJ20_init_0 ++ []
theorem dksJ20_init_0 : cJ20_init.data.toList.drop 0 = dktJ20_init_0 := by decide +kernel
theorem dJ20_init_0 : decode cJ20_init 0 = .ok (.aload_n 0, 1) := dk_42 (dk_at dksJ20_init_0 0 rfl rfl)
theorem dJ20_init_1 : decode cJ20_init 1 = .ok (.aload_n 1, 1) := dk_43 (dk_at dksJ20_init_0 1 rfl rfl)
theorem dJ20_init_2 : decode cJ20_init 2 = .ok (.aconst_null, 1) := dk_1 (dk_at dksJ20_init_0 2 rfl rfl)
theorem dJ20_init_3 : decode cJ20_init 3 = .ok (.invokespecial 489, 3) := dk_183 1 233 (dk_at dksJ20_init_0 3 rfl rfl)
theorem dJ20_init_6 : decode cJ20_init 6 = .ok (.return_, 1) := dk_177 (dk_at dksJ20_init_0 6 rfl rfl)
abbrev cJ20_init_2 : ByteArray := prog_86_method_150_code
def yJ20_init_2 : MethodName := ⟨RJ20, "<init>", "(Ljava/lang/AbstractStringBuilder;Ljava/lang/Void;)V"⟩
def dkwJ20_init_2_4 : List UInt8 := [181, 0, 9, 177]
abbrev dktJ20_init_2_4 : List UInt8 := dkwJ20_init_2_4 ++ []
def dkwJ20_init_2_3 : List UInt8 := [184, 0, 47, 181, 0, 15, 177, 42, 4, 181, 0, 15, 42, 45, 3, 21, 4, 4, 120, 184, 0, 54]
abbrev dktJ20_init_2_3 : List UInt8 := dkwJ20_init_2_3 ++ dktJ20_init_2_4
def dkwJ20_init_2_2 : List UInt8 := [180, 4, 24, 153, 0, 28, 42, 45, 3, 21, 4, 184, 4, 27, 181, 0, 9, 42, 42, 180, 0, 9, 21, 4]
abbrev dktJ20_init_2_2 : List UInt8 := dkwJ20_init_2_2 ++ dktJ20_init_2_3
def dkwJ20_init_2_1 : List UInt8 := [181, 0, 15, 42, 45, 3, 21, 4, 184, 0, 54, 181, 0, 9, 167, 0, 59, 178, 0, 38, 153, 0, 35, 43]
abbrev dktJ20_init_2_1 : List UInt8 := dkwJ20_init_2_1 ++ dktJ20_init_2_2
def dkwJ20_init_2_0 : List UInt8 := [42, 183, 0, 1, 43, 182, 2, 40, 78, 43, 182, 2, 37, 54, 4, 43, 182, 4, 23, 153, 0, 22, 42, 3]
abbrev dktJ20_init_2_0 : List UInt8 := dkwJ20_init_2_0 ++ dktJ20_init_2_1
theorem dksJ20_init_2_0 : cJ20_init_2.data.toList.drop 0 = dktJ20_init_2_0 := by decide +kernel
theorem dksJ20_init_2_1 : cJ20_init_2.data.toList.drop 24 = dktJ20_init_2_1 := dk_seg dksJ20_init_2_0 24 rfl rfl
theorem dksJ20_init_2_2 : cJ20_init_2.data.toList.drop 48 = dktJ20_init_2_2 := dk_seg dksJ20_init_2_1 24 rfl rfl
theorem dksJ20_init_2_3 : cJ20_init_2.data.toList.drop 72 = dktJ20_init_2_3 := dk_seg dksJ20_init_2_2 24 rfl rfl
theorem dksJ20_init_2_4 : cJ20_init_2.data.toList.drop 94 = dktJ20_init_2_4 := dk_seg dksJ20_init_2_3 22 rfl rfl
theorem dJ20_init_2_0 : decode cJ20_init_2 0 = .ok (.aload_n 0, 1) := dk_42 (dk_at dksJ20_init_2_0 0 rfl rfl)
theorem dJ20_init_2_1 : decode cJ20_init_2 1 = .ok (.invokespecial 1, 3) := dk_183 0 1 (dk_at dksJ20_init_2_0 1 rfl rfl)
theorem dJ20_init_2_4 : decode cJ20_init_2 4 = .ok (.aload_n 1, 1) := dk_43 (dk_at dksJ20_init_2_0 4 rfl rfl)
theorem dJ20_init_2_5 : decode cJ20_init_2 5 = .ok (.invokevirtual 552, 3) := dk_182 2 40 (dk_at dksJ20_init_2_0 5 rfl rfl)
theorem dJ20_init_2_8 : decode cJ20_init_2 8 = .ok (.astore_n 3, 1) := dk_78 (dk_at dksJ20_init_2_0 8 rfl rfl)
theorem dJ20_init_2_9 : decode cJ20_init_2 9 = .ok (.aload_n 1, 1) := dk_43 (dk_at dksJ20_init_2_0 9 rfl rfl)
theorem dJ20_init_2_10 : decode cJ20_init_2 10 = .ok (.invokevirtual 549, 3) := dk_182 2 37 (dk_at dksJ20_init_2_0 10 rfl rfl)
theorem dJ20_init_2_13 : decode cJ20_init_2 13 = .ok (.istore 4, 2) := dk_54 4 (dk_at dksJ20_init_2_0 13 rfl rfl)
theorem dJ20_init_2_15 : decode cJ20_init_2 15 = .ok (.aload_n 1, 1) := dk_43 (dk_at dksJ20_init_2_0 15 rfl rfl)
theorem dJ20_init_2_16 : decode cJ20_init_2 16 = .ok (.invokevirtual 1047, 3) := dk_182 4 23 (dk_at dksJ20_init_2_0 16 rfl rfl)
theorem dJ20_init_2_19 : decode cJ20_init_2 19 = .ok (.ifCond .eq 22, 3) := dk_153 0 22 (dk_at dksJ20_init_2_0 19 rfl rfl)
theorem dJ20_init_2_22 : decode cJ20_init_2 22 = .ok (.aload_n 0, 1) := dk_42 (dk_at dksJ20_init_2_0 22 rfl rfl)
theorem dJ20_init_2_23 : decode cJ20_init_2 23 = .ok (.iconst 0, 1) := dk_3 (dk_at dksJ20_init_2_0 23 rfl rfl)
theorem dJ20_init_2_24 : decode cJ20_init_2 24 = .ok (.putfield 15, 3) := dk_181 0 15 (dk_at dksJ20_init_2_1 0 rfl rfl)
theorem dJ20_init_2_27 : decode cJ20_init_2 27 = .ok (.aload_n 0, 1) := dk_42 (dk_at dksJ20_init_2_1 3 rfl rfl)
theorem dJ20_init_2_28 : decode cJ20_init_2 28 = .ok (.aload_n 3, 1) := dk_45 (dk_at dksJ20_init_2_1 4 rfl rfl)
theorem dJ20_init_2_29 : decode cJ20_init_2 29 = .ok (.iconst 0, 1) := dk_3 (dk_at dksJ20_init_2_1 5 rfl rfl)
theorem dJ20_init_2_30 : decode cJ20_init_2 30 = .ok (.iload 4, 2) := dk_21 4 (dk_at dksJ20_init_2_1 6 rfl rfl)
theorem dJ20_init_2_32 : decode cJ20_init_2 32 = .ok (.invokestatic 54, 3) := dk_184 0 54 (dk_at dksJ20_init_2_1 8 rfl rfl)
theorem dJ20_init_2_35 : decode cJ20_init_2 35 = .ok (.putfield 9, 3) := dk_181 0 9 (dk_at dksJ20_init_2_1 11 rfl rfl)
theorem dJ20_init_2_38 : decode cJ20_init_2 38 = .ok (.goto 59, 3) := dk_167 0 59 (dk_at dksJ20_init_2_1 14 rfl rfl)
theorem dJ20_init_2_41 : decode cJ20_init_2 41 = .ok (.getstatic 38, 3) := dk_178 0 38 (dk_at dksJ20_init_2_1 17 rfl rfl)
theorem dJ20_init_2_44 : decode cJ20_init_2 44 = .ok (.ifCond .eq 35, 3) := dk_153 0 35 (dk_at dksJ20_init_2_1 20 rfl rfl)
theorem dJ20_init_2_47 : decode cJ20_init_2 47 = .ok (.aload_n 1, 1) := dk_43 (dk_at dksJ20_init_2_1 23 rfl rfl)
theorem dJ20_init_2_48 : decode cJ20_init_2 48 = .ok (.getfield 1048, 3) := dk_180 4 24 (dk_at dksJ20_init_2_2 0 rfl rfl)
theorem dJ20_init_2_51 : decode cJ20_init_2 51 = .ok (.ifCond .eq 28, 3) := dk_153 0 28 (dk_at dksJ20_init_2_2 3 rfl rfl)
theorem dJ20_init_2_54 : decode cJ20_init_2 54 = .ok (.aload_n 0, 1) := dk_42 (dk_at dksJ20_init_2_2 6 rfl rfl)
theorem dJ20_init_2_55 : decode cJ20_init_2 55 = .ok (.aload_n 3, 1) := dk_45 (dk_at dksJ20_init_2_2 7 rfl rfl)
theorem dJ20_init_2_56 : decode cJ20_init_2 56 = .ok (.iconst 0, 1) := dk_3 (dk_at dksJ20_init_2_2 8 rfl rfl)
theorem dJ20_init_2_57 : decode cJ20_init_2 57 = .ok (.iload 4, 2) := dk_21 4 (dk_at dksJ20_init_2_2 9 rfl rfl)
theorem dJ20_init_2_59 : decode cJ20_init_2 59 = .ok (.invokestatic 1051, 3) := dk_184 4 27 (dk_at dksJ20_init_2_2 11 rfl rfl)
theorem dJ20_init_2_62 : decode cJ20_init_2 62 = .ok (.putfield 9, 3) := dk_181 0 9 (dk_at dksJ20_init_2_2 14 rfl rfl)
theorem dJ20_init_2_65 : decode cJ20_init_2 65 = .ok (.aload_n 0, 1) := dk_42 (dk_at dksJ20_init_2_2 17 rfl rfl)
theorem dJ20_init_2_66 : decode cJ20_init_2 66 = .ok (.aload_n 0, 1) := dk_42 (dk_at dksJ20_init_2_2 18 rfl rfl)
theorem dJ20_init_2_67 : decode cJ20_init_2 67 = .ok (.getfield 9, 3) := dk_180 0 9 (dk_at dksJ20_init_2_2 19 rfl rfl)
theorem dJ20_init_2_70 : decode cJ20_init_2 70 = .ok (.iload 4, 2) := dk_21 4 (dk_at dksJ20_init_2_2 22 rfl rfl)
theorem dJ20_init_2_72 : decode cJ20_init_2 72 = .ok (.invokestatic 47, 3) := dk_184 0 47 (dk_at dksJ20_init_2_3 0 rfl rfl)
theorem dJ20_init_2_75 : decode cJ20_init_2 75 = .ok (.putfield 15, 3) := dk_181 0 15 (dk_at dksJ20_init_2_3 3 rfl rfl)
theorem dJ20_init_2_78 : decode cJ20_init_2 78 = .ok (.return_, 1) := dk_177 (dk_at dksJ20_init_2_3 6 rfl rfl)
theorem dJ20_init_2_79 : decode cJ20_init_2 79 = .ok (.aload_n 0, 1) := dk_42 (dk_at dksJ20_init_2_3 7 rfl rfl)
theorem dJ20_init_2_80 : decode cJ20_init_2 80 = .ok (.iconst 1, 1) := dk_4 (dk_at dksJ20_init_2_3 8 rfl rfl)
theorem dJ20_init_2_81 : decode cJ20_init_2 81 = .ok (.putfield 15, 3) := dk_181 0 15 (dk_at dksJ20_init_2_3 9 rfl rfl)
theorem dJ20_init_2_84 : decode cJ20_init_2 84 = .ok (.aload_n 0, 1) := dk_42 (dk_at dksJ20_init_2_3 12 rfl rfl)
theorem dJ20_init_2_85 : decode cJ20_init_2 85 = .ok (.aload_n 3, 1) := dk_45 (dk_at dksJ20_init_2_3 13 rfl rfl)
theorem dJ20_init_2_86 : decode cJ20_init_2 86 = .ok (.iconst 0, 1) := dk_3 (dk_at dksJ20_init_2_3 14 rfl rfl)
theorem dJ20_init_2_87 : decode cJ20_init_2 87 = .ok (.iload 4, 2) := dk_21 4 (dk_at dksJ20_init_2_3 15 rfl rfl)
theorem dJ20_init_2_89 : decode cJ20_init_2 89 = .ok (.iconst 1, 1) := dk_4 (dk_at dksJ20_init_2_3 17 rfl rfl)
theorem dJ20_init_2_90 : decode cJ20_init_2 90 = .ok (.ishl, 1) := dk_120 (dk_at dksJ20_init_2_3 18 rfl rfl)
theorem dJ20_init_2_91 : decode cJ20_init_2 91 = .ok (.invokestatic 54, 3) := dk_184 0 54 (dk_at dksJ20_init_2_3 19 rfl rfl)
theorem dJ20_init_2_94 : decode cJ20_init_2 94 = .ok (.putfield 9, 3) := dk_181 0 9 (dk_at dksJ20_init_2_4 0 rfl rfl)
theorem dJ20_init_2_97 : decode cJ20_init_2 97 = .ok (.return_, 1) := dk_177 (dk_at dksJ20_init_2_4 3 rfl rfl)
abbrev cJ20_checkBoundsBeginEnd : ByteArray := prog_86_method_158_code
def yJ20_checkBoundsBeginEnd : MethodName := ⟨RJ20, "checkBoundsBeginEnd", "(III)V"⟩
def dkwJ20_checkBoundsBeginEnd_0 : List UInt8 := [26, 27, 28, 178, 4, 29, 184, 4, 38, 87, 177]
abbrev dktJ20_checkBoundsBeginEnd_0 : List UInt8 := dkwJ20_checkBoundsBeginEnd_0 ++ []
theorem dksJ20_checkBoundsBeginEnd_0 : cJ20_checkBoundsBeginEnd.data.toList.drop 0 = dktJ20_checkBoundsBeginEnd_0 := by decide +kernel
theorem dJ20_checkBoundsBeginEnd_0 : decode cJ20_checkBoundsBeginEnd 0 = .ok (.iload_n 0, 1) := dk_26 (dk_at dksJ20_checkBoundsBeginEnd_0 0 rfl rfl)
theorem dJ20_checkBoundsBeginEnd_1 : decode cJ20_checkBoundsBeginEnd 1 = .ok (.iload_n 1, 1) := dk_27 (dk_at dksJ20_checkBoundsBeginEnd_0 1 rfl rfl)
theorem dJ20_checkBoundsBeginEnd_2 : decode cJ20_checkBoundsBeginEnd 2 = .ok (.iload_n 2, 1) := dk_28 (dk_at dksJ20_checkBoundsBeginEnd_0 2 rfl rfl)
theorem dJ20_checkBoundsBeginEnd_3 : decode cJ20_checkBoundsBeginEnd 3 = .ok (.getstatic 1053, 3) := dk_178 4 29 (dk_at dksJ20_checkBoundsBeginEnd_0 3 rfl rfl)
theorem dJ20_checkBoundsBeginEnd_6 : decode cJ20_checkBoundsBeginEnd 6 = .ok (.invokestatic 1062, 3) := dk_184 4 38 (dk_at dksJ20_checkBoundsBeginEnd_0 6 rfl rfl)
theorem dJ20_checkBoundsBeginEnd_9 : decode cJ20_checkBoundsBeginEnd 9 = .ok (.pop, 1) := dk_87 (dk_at dksJ20_checkBoundsBeginEnd_0 9 rfl rfl)
theorem dJ20_checkBoundsBeginEnd_10 : decode cJ20_checkBoundsBeginEnd 10 = .ok (.return_, 1) := dk_177 (dk_at dksJ20_checkBoundsBeginEnd_0 10 rfl rfl)
abbrev cJ20_length : ByteArray := prog_86_method_54_code
def yJ20_length : MethodName := ⟨RJ20, "length", "()I"⟩
def dkwJ20_length_0 : List UInt8 := [42, 180, 0, 9, 190, 42, 182, 1, 79, 122, 172]
abbrev dktJ20_length_0 : List UInt8 := dkwJ20_length_0 ++ []
theorem dksJ20_length_0 : cJ20_length.data.toList.drop 0 = dktJ20_length_0 := by decide +kernel
theorem dJ20_length_0 : decode cJ20_length 0 = .ok (.aload_n 0, 1) := dk_42 (dk_at dksJ20_length_0 0 rfl rfl)
theorem dJ20_length_1 : decode cJ20_length 1 = .ok (.getfield 9, 3) := dk_180 0 9 (dk_at dksJ20_length_0 1 rfl rfl)
theorem dJ20_length_4 : decode cJ20_length 4 = .ok (.arraylength, 1) := dk_190 (dk_at dksJ20_length_0 4 rfl rfl)
theorem dJ20_length_5 : decode cJ20_length 5 = .ok (.aload_n 0, 1) := dk_42 (dk_at dksJ20_length_0 5 rfl rfl)
theorem dJ20_length_6 : decode cJ20_length 6 = .ok (.invokevirtual 335, 3) := dk_182 1 79 (dk_at dksJ20_length_0 6 rfl rfl)
theorem dJ20_length_9 : decode cJ20_length 9 = .ok (.ishr, 1) := dk_122 (dk_at dksJ20_length_0 9 rfl rfl)
theorem dJ20_length_10 : decode cJ20_length 10 = .ok (.ireturn, 1) := dk_172 (dk_at dksJ20_length_0 10 rfl rfl)
abbrev cJ20_coder : ByteArray := prog_86_method_152_code
def yJ20_coder : MethodName := ⟨RJ20, "coder", "()B"⟩
def dkwJ20_coder_0 : List UInt8 := [178, 0, 38, 153, 0, 10, 42, 180, 0, 15, 167, 0, 4, 4, 172]
abbrev dktJ20_coder_0 : List UInt8 := dkwJ20_coder_0 ++ []
theorem dksJ20_coder_0 : cJ20_coder.data.toList.drop 0 = dktJ20_coder_0 := by decide +kernel
theorem dJ20_coder_0 : decode cJ20_coder 0 = .ok (.getstatic 38, 3) := dk_178 0 38 (dk_at dksJ20_coder_0 0 rfl rfl)
theorem dJ20_coder_3 : decode cJ20_coder 3 = .ok (.ifCond .eq 10, 3) := dk_153 0 10 (dk_at dksJ20_coder_0 3 rfl rfl)
theorem dJ20_coder_6 : decode cJ20_coder 6 = .ok (.aload_n 0, 1) := dk_42 (dk_at dksJ20_coder_0 6 rfl rfl)
theorem dJ20_coder_7 : decode cJ20_coder 7 = .ok (.getfield 15, 3) := dk_180 0 15 (dk_at dksJ20_coder_0 7 rfl rfl)
theorem dJ20_coder_10 : decode cJ20_coder 10 = .ok (.goto 4, 3) := dk_167 0 4 (dk_at dksJ20_coder_0 10 rfl rfl)
theorem dJ20_coder_13 : decode cJ20_coder 13 = .ok (.iconst 1, 1) := dk_4 (dk_at dksJ20_coder_0 13 rfl rfl)
theorem dJ20_coder_14 : decode cJ20_coder 14 = .ok (.ireturn, 1) := dk_172 (dk_at dksJ20_coder_0 14 rfl rfl)
abbrev cJ20_getBytes : ByteArray := prog_86_method_147_code
def yJ20_getBytes : MethodName := ⟨RJ20, "getBytes", "([BIB)V"⟩
def dkwJ20_getBytes_1 : List UInt8 := [184, 0, 212, 167, 0, 18, 42, 180, 0, 9, 3, 43, 28, 42, 180, 0, 9, 190, 184, 0, 106, 177]
abbrev dktJ20_getBytes_1 : List UInt8 := dkwJ20_getBytes_1 ++ []
def dkwJ20_getBytes_0 : List UInt8 := [42, 182, 1, 79, 29, 160, 0, 23, 42, 180, 0, 9, 3, 43, 28, 29, 120, 42, 180, 0, 9, 190]
abbrev dktJ20_getBytes_0 : List UInt8 := dkwJ20_getBytes_0 ++ dktJ20_getBytes_1
theorem dksJ20_getBytes_0 : cJ20_getBytes.data.toList.drop 0 = dktJ20_getBytes_0 := by decide +kernel
theorem dksJ20_getBytes_1 : cJ20_getBytes.data.toList.drop 22 = dktJ20_getBytes_1 := dk_seg dksJ20_getBytes_0 22 rfl rfl
theorem dJ20_getBytes_0 : decode cJ20_getBytes 0 = .ok (.aload_n 0, 1) := dk_42 (dk_at dksJ20_getBytes_0 0 rfl rfl)
theorem dJ20_getBytes_1 : decode cJ20_getBytes 1 = .ok (.invokevirtual 335, 3) := dk_182 1 79 (dk_at dksJ20_getBytes_0 1 rfl rfl)
theorem dJ20_getBytes_4 : decode cJ20_getBytes 4 = .ok (.iload_n 3, 1) := dk_29 (dk_at dksJ20_getBytes_0 4 rfl rfl)
theorem dJ20_getBytes_5 : decode cJ20_getBytes 5 = .ok (.if_icmp .ne 23, 3) := dk_160 0 23 (dk_at dksJ20_getBytes_0 5 rfl rfl)
theorem dJ20_getBytes_8 : decode cJ20_getBytes 8 = .ok (.aload_n 0, 1) := dk_42 (dk_at dksJ20_getBytes_0 8 rfl rfl)
theorem dJ20_getBytes_9 : decode cJ20_getBytes 9 = .ok (.getfield 9, 3) := dk_180 0 9 (dk_at dksJ20_getBytes_0 9 rfl rfl)
theorem dJ20_getBytes_12 : decode cJ20_getBytes 12 = .ok (.iconst 0, 1) := dk_3 (dk_at dksJ20_getBytes_0 12 rfl rfl)
theorem dJ20_getBytes_13 : decode cJ20_getBytes 13 = .ok (.aload_n 1, 1) := dk_43 (dk_at dksJ20_getBytes_0 13 rfl rfl)
theorem dJ20_getBytes_14 : decode cJ20_getBytes 14 = .ok (.iload_n 2, 1) := dk_28 (dk_at dksJ20_getBytes_0 14 rfl rfl)
theorem dJ20_getBytes_15 : decode cJ20_getBytes 15 = .ok (.iload_n 3, 1) := dk_29 (dk_at dksJ20_getBytes_0 15 rfl rfl)
theorem dJ20_getBytes_16 : decode cJ20_getBytes 16 = .ok (.ishl, 1) := dk_120 (dk_at dksJ20_getBytes_0 16 rfl rfl)
theorem dJ20_getBytes_17 : decode cJ20_getBytes 17 = .ok (.aload_n 0, 1) := dk_42 (dk_at dksJ20_getBytes_0 17 rfl rfl)
theorem dJ20_getBytes_18 : decode cJ20_getBytes 18 = .ok (.getfield 9, 3) := dk_180 0 9 (dk_at dksJ20_getBytes_0 18 rfl rfl)
theorem dJ20_getBytes_21 : decode cJ20_getBytes 21 = .ok (.arraylength, 1) := dk_190 (dk_at dksJ20_getBytes_0 21 rfl rfl)
theorem dJ20_getBytes_22 : decode cJ20_getBytes 22 = .ok (.invokestatic 212, 3) := dk_184 0 212 (dk_at dksJ20_getBytes_1 0 rfl rfl)
theorem dJ20_getBytes_25 : decode cJ20_getBytes 25 = .ok (.goto 18, 3) := dk_167 0 18 (dk_at dksJ20_getBytes_1 3 rfl rfl)
theorem dJ20_getBytes_28 : decode cJ20_getBytes 28 = .ok (.aload_n 0, 1) := dk_42 (dk_at dksJ20_getBytes_1 6 rfl rfl)
theorem dJ20_getBytes_29 : decode cJ20_getBytes 29 = .ok (.getfield 9, 3) := dk_180 0 9 (dk_at dksJ20_getBytes_1 7 rfl rfl)
theorem dJ20_getBytes_32 : decode cJ20_getBytes 32 = .ok (.iconst 0, 1) := dk_3 (dk_at dksJ20_getBytes_1 10 rfl rfl)
theorem dJ20_getBytes_33 : decode cJ20_getBytes 33 = .ok (.aload_n 1, 1) := dk_43 (dk_at dksJ20_getBytes_1 11 rfl rfl)
theorem dJ20_getBytes_34 : decode cJ20_getBytes 34 = .ok (.iload_n 2, 1) := dk_28 (dk_at dksJ20_getBytes_1 12 rfl rfl)
theorem dJ20_getBytes_35 : decode cJ20_getBytes 35 = .ok (.aload_n 0, 1) := dk_42 (dk_at dksJ20_getBytes_1 13 rfl rfl)
theorem dJ20_getBytes_36 : decode cJ20_getBytes 36 = .ok (.getfield 9, 3) := dk_180 0 9 (dk_at dksJ20_getBytes_1 14 rfl rfl)
theorem dJ20_getBytes_39 : decode cJ20_getBytes 39 = .ok (.arraylength, 1) := dk_190 (dk_at dksJ20_getBytes_1 17 rfl rfl)
theorem dJ20_getBytes_40 : decode cJ20_getBytes 40 = .ok (.invokestatic 106, 3) := dk_184 0 106 (dk_at dksJ20_getBytes_1 18 rfl rfl)
theorem dJ20_getBytes_43 : decode cJ20_getBytes 43 = .ok (.return_, 1) := dk_177 (dk_at dksJ20_getBytes_1 21 rfl rfl)
abbrev cJ20_equals : ByteArray := prog_86_method_66_code
def yJ20_equals : MethodName := ⟨RJ20, "equals", "(Ljava/lang/Object;)Z"⟩
def dkwJ20_equals_2 : List UInt8 := [184, 2, 29, 153, 0, 7, 4, 167, 0, 4, 3, 172]
abbrev dktJ20_equals_2 : List UInt8 := dkwJ20_equals_2 ++ []
def dkwJ20_equals_1 : List UInt8 := [153, 0, 14, 42, 180, 0, 15, 44, 180, 0, 15, 160, 0, 21, 42, 180, 0, 9, 44, 180, 0, 9]
abbrev dktJ20_equals_1 : List UInt8 := dkwJ20_equals_1 ++ dktJ20_equals_2
def dkwJ20_equals_0 : List UInt8 := [42, 43, 166, 0, 5, 4, 172, 43, 193, 0, 10, 153, 0, 43, 43, 192, 0, 10, 77, 178, 0, 38]
abbrev dktJ20_equals_0 : List UInt8 := dkwJ20_equals_0 ++ dktJ20_equals_1
theorem dksJ20_equals_0 : cJ20_equals.data.toList.drop 0 = dktJ20_equals_0 := by decide +kernel
theorem dksJ20_equals_1 : cJ20_equals.data.toList.drop 22 = dktJ20_equals_1 := dk_seg dksJ20_equals_0 22 rfl rfl
theorem dksJ20_equals_2 : cJ20_equals.data.toList.drop 44 = dktJ20_equals_2 := dk_seg dksJ20_equals_1 22 rfl rfl
theorem dJ20_equals_0 : decode cJ20_equals 0 = .ok (.aload_n 0, 1) := dk_42 (dk_at dksJ20_equals_0 0 rfl rfl)
theorem dJ20_equals_1 : decode cJ20_equals 1 = .ok (.aload_n 1, 1) := dk_43 (dk_at dksJ20_equals_0 1 rfl rfl)
theorem dJ20_equals_2 : decode cJ20_equals 2 = .ok (.if_acmp .ne 5, 3) := dk_166 0 5 (dk_at dksJ20_equals_0 2 rfl rfl)
theorem dJ20_equals_5 : decode cJ20_equals 5 = .ok (.iconst 1, 1) := dk_4 (dk_at dksJ20_equals_0 5 rfl rfl)
theorem dJ20_equals_6 : decode cJ20_equals 6 = .ok (.ireturn, 1) := dk_172 (dk_at dksJ20_equals_0 6 rfl rfl)
theorem dJ20_equals_7 : decode cJ20_equals 7 = .ok (.aload_n 1, 1) := dk_43 (dk_at dksJ20_equals_0 7 rfl rfl)
theorem dJ20_equals_8 : decode cJ20_equals 8 = .ok (.instanceof 10, 3) := dk_193 0 10 (dk_at dksJ20_equals_0 8 rfl rfl)
theorem dJ20_equals_11 : decode cJ20_equals 11 = .ok (.ifCond .eq 43, 3) := dk_153 0 43 (dk_at dksJ20_equals_0 11 rfl rfl)
theorem dJ20_equals_14 : decode cJ20_equals 14 = .ok (.aload_n 1, 1) := dk_43 (dk_at dksJ20_equals_0 14 rfl rfl)
theorem dJ20_equals_15 : decode cJ20_equals 15 = .ok (.checkcast 10, 3) := dk_192 0 10 (dk_at dksJ20_equals_0 15 rfl rfl)
theorem dJ20_equals_18 : decode cJ20_equals 18 = .ok (.astore_n 2, 1) := dk_77 (dk_at dksJ20_equals_0 18 rfl rfl)
theorem dJ20_equals_19 : decode cJ20_equals 19 = .ok (.getstatic 38, 3) := dk_178 0 38 (dk_at dksJ20_equals_0 19 rfl rfl)
theorem dJ20_equals_22 : decode cJ20_equals 22 = .ok (.ifCond .eq 14, 3) := dk_153 0 14 (dk_at dksJ20_equals_1 0 rfl rfl)
theorem dJ20_equals_25 : decode cJ20_equals 25 = .ok (.aload_n 0, 1) := dk_42 (dk_at dksJ20_equals_1 3 rfl rfl)
theorem dJ20_equals_26 : decode cJ20_equals 26 = .ok (.getfield 15, 3) := dk_180 0 15 (dk_at dksJ20_equals_1 4 rfl rfl)
theorem dJ20_equals_29 : decode cJ20_equals 29 = .ok (.aload_n 2, 1) := dk_44 (dk_at dksJ20_equals_1 7 rfl rfl)
theorem dJ20_equals_30 : decode cJ20_equals 30 = .ok (.getfield 15, 3) := dk_180 0 15 (dk_at dksJ20_equals_1 8 rfl rfl)
theorem dJ20_equals_33 : decode cJ20_equals 33 = .ok (.if_icmp .ne 21, 3) := dk_160 0 21 (dk_at dksJ20_equals_1 11 rfl rfl)
theorem dJ20_equals_36 : decode cJ20_equals 36 = .ok (.aload_n 0, 1) := dk_42 (dk_at dksJ20_equals_1 14 rfl rfl)
theorem dJ20_equals_37 : decode cJ20_equals 37 = .ok (.getfield 9, 3) := dk_180 0 9 (dk_at dksJ20_equals_1 15 rfl rfl)
theorem dJ20_equals_40 : decode cJ20_equals 40 = .ok (.aload_n 2, 1) := dk_44 (dk_at dksJ20_equals_1 18 rfl rfl)
theorem dJ20_equals_41 : decode cJ20_equals 41 = .ok (.getfield 9, 3) := dk_180 0 9 (dk_at dksJ20_equals_1 19 rfl rfl)
theorem dJ20_equals_44 : decode cJ20_equals 44 = .ok (.invokestatic 541, 3) := dk_184 2 29 (dk_at dksJ20_equals_2 0 rfl rfl)
theorem dJ20_equals_47 : decode cJ20_equals 47 = .ok (.ifCond .eq 7, 3) := dk_153 0 7 (dk_at dksJ20_equals_2 3 rfl rfl)
theorem dJ20_equals_50 : decode cJ20_equals 50 = .ok (.iconst 1, 1) := dk_4 (dk_at dksJ20_equals_2 6 rfl rfl)
theorem dJ20_equals_51 : decode cJ20_equals 51 = .ok (.goto 4, 3) := dk_167 0 4 (dk_at dksJ20_equals_2 7 rfl rfl)
theorem dJ20_equals_54 : decode cJ20_equals 54 = .ok (.iconst 0, 1) := dk_3 (dk_at dksJ20_equals_2 10 rfl rfl)
theorem dJ20_equals_55 : decode cJ20_equals 55 = .ok (.ireturn, 1) := dk_172 (dk_at dksJ20_equals_2 11 rfl rfl)
abbrev cJ20_charAt : ByteArray := prog_86_method_56_code
def yJ20_charAt : MethodName := ⟨RJ20, "charAt", "(I)C"⟩
def dkwJ20_charAt_1 : List UInt8 := [172]
abbrev dktJ20_charAt_1 : List UInt8 := dkwJ20_charAt_1 ++ []
def dkwJ20_charAt_0 : List UInt8 := [42, 182, 1, 236, 153, 0, 12, 42, 180, 0, 9, 27, 184, 1, 239, 172, 42, 180, 0, 9, 27, 184, 1, 242]
abbrev dktJ20_charAt_0 : List UInt8 := dkwJ20_charAt_0 ++ dktJ20_charAt_1
theorem dksJ20_charAt_0 : cJ20_charAt.data.toList.drop 0 = dktJ20_charAt_0 := by decide +kernel
theorem dksJ20_charAt_1 : cJ20_charAt.data.toList.drop 24 = dktJ20_charAt_1 := dk_seg dksJ20_charAt_0 24 rfl rfl
theorem dJ20_charAt_0 : decode cJ20_charAt 0 = .ok (.aload_n 0, 1) := dk_42 (dk_at dksJ20_charAt_0 0 rfl rfl)
theorem dJ20_charAt_1 : decode cJ20_charAt 1 = .ok (.invokevirtual 492, 3) := dk_182 1 236 (dk_at dksJ20_charAt_0 1 rfl rfl)
theorem dJ20_charAt_4 : decode cJ20_charAt 4 = .ok (.ifCond .eq 12, 3) := dk_153 0 12 (dk_at dksJ20_charAt_0 4 rfl rfl)
theorem dJ20_charAt_7 : decode cJ20_charAt 7 = .ok (.aload_n 0, 1) := dk_42 (dk_at dksJ20_charAt_0 7 rfl rfl)
theorem dJ20_charAt_8 : decode cJ20_charAt 8 = .ok (.getfield 9, 3) := dk_180 0 9 (dk_at dksJ20_charAt_0 8 rfl rfl)
theorem dJ20_charAt_11 : decode cJ20_charAt 11 = .ok (.iload_n 1, 1) := dk_27 (dk_at dksJ20_charAt_0 11 rfl rfl)
theorem dJ20_charAt_12 : decode cJ20_charAt 12 = .ok (.invokestatic 495, 3) := dk_184 1 239 (dk_at dksJ20_charAt_0 12 rfl rfl)
theorem dJ20_charAt_15 : decode cJ20_charAt 15 = .ok (.ireturn, 1) := dk_172 (dk_at dksJ20_charAt_0 15 rfl rfl)
theorem dJ20_charAt_16 : decode cJ20_charAt 16 = .ok (.aload_n 0, 1) := dk_42 (dk_at dksJ20_charAt_0 16 rfl rfl)
theorem dJ20_charAt_17 : decode cJ20_charAt 17 = .ok (.getfield 9, 3) := dk_180 0 9 (dk_at dksJ20_charAt_0 17 rfl rfl)
theorem dJ20_charAt_20 : decode cJ20_charAt 20 = .ok (.iload_n 1, 1) := dk_27 (dk_at dksJ20_charAt_0 20 rfl rfl)
theorem dJ20_charAt_21 : decode cJ20_charAt 21 = .ok (.invokestatic 498, 3) := dk_184 1 242 (dk_at dksJ20_charAt_0 21 rfl rfl)
theorem dJ20_charAt_24 : decode cJ20_charAt 24 = .ok (.ireturn, 1) := dk_172 (dk_at dksJ20_charAt_1 0 rfl rfl)
abbrev cJ20_isLatin1 : ByteArray := prog_86_method_154_code
def yJ20_isLatin1 : MethodName := ⟨RJ20, "isLatin1", "()Z"⟩
def dkwJ20_isLatin1_0 : List UInt8 := [178, 0, 38, 153, 0, 14, 42, 180, 0, 15, 154, 0, 7, 4, 167, 0, 4, 3, 172]
abbrev dktJ20_isLatin1_0 : List UInt8 := dkwJ20_isLatin1_0 ++ []
theorem dksJ20_isLatin1_0 : cJ20_isLatin1.data.toList.drop 0 = dktJ20_isLatin1_0 := by decide +kernel
theorem dJ20_isLatin1_0 : decode cJ20_isLatin1 0 = .ok (.getstatic 38, 3) := dk_178 0 38 (dk_at dksJ20_isLatin1_0 0 rfl rfl)
theorem dJ20_isLatin1_3 : decode cJ20_isLatin1 3 = .ok (.ifCond .eq 14, 3) := dk_153 0 14 (dk_at dksJ20_isLatin1_0 3 rfl rfl)
theorem dJ20_isLatin1_6 : decode cJ20_isLatin1 6 = .ok (.aload_n 0, 1) := dk_42 (dk_at dksJ20_isLatin1_0 6 rfl rfl)
theorem dJ20_isLatin1_7 : decode cJ20_isLatin1 7 = .ok (.getfield 15, 3) := dk_180 0 15 (dk_at dksJ20_isLatin1_0 7 rfl rfl)
theorem dJ20_isLatin1_10 : decode cJ20_isLatin1 10 = .ok (.ifCond .ne 7, 3) := dk_154 0 7 (dk_at dksJ20_isLatin1_0 10 rfl rfl)
theorem dJ20_isLatin1_13 : decode cJ20_isLatin1 13 = .ok (.iconst 1, 1) := dk_4 (dk_at dksJ20_isLatin1_0 13 rfl rfl)
theorem dJ20_isLatin1_14 : decode cJ20_isLatin1 14 = .ok (.goto 4, 3) := dk_167 0 4 (dk_at dksJ20_isLatin1_0 14 rfl rfl)
theorem dJ20_isLatin1_17 : decode cJ20_isLatin1 17 = .ok (.iconst 0, 1) := dk_3 (dk_at dksJ20_isLatin1_0 17 rfl rfl)
theorem dJ20_isLatin1_18 : decode cJ20_isLatin1 18 = .ok (.ireturn, 1) := dk_172 (dk_at dksJ20_isLatin1_0 18 rfl rfl)
abbrev cJ20_hashCode : ByteArray := prog_86_method_78_code
def yJ20_hashCode : MethodName := ⟨RJ20, "hashCode", "()I"⟩
def dkwJ20_hashCode_2 : List UInt8 := [181, 0, 23, 167, 0, 8, 42, 27, 181, 0, 19, 27, 172]
abbrev dktJ20_hashCode_2 : List UInt8 := dkwJ20_hashCode_2 ++ []
def dkwJ20_hashCode_1 : List UInt8 := [180, 0, 9, 184, 2, 116, 167, 0, 10, 42, 180, 0, 9, 184, 2, 120, 60, 27, 154, 0, 11, 42, 4]
abbrev dktJ20_hashCode_1 : List UInt8 := dkwJ20_hashCode_1 ++ dktJ20_hashCode_2
def dkwJ20_hashCode_0 : List UInt8 := [42, 180, 0, 19, 60, 27, 154, 0, 52, 42, 180, 0, 23, 154, 0, 45, 42, 182, 1, 236, 153, 0, 13, 42]
abbrev dktJ20_hashCode_0 : List UInt8 := dkwJ20_hashCode_0 ++ dktJ20_hashCode_1
theorem dksJ20_hashCode_0 : cJ20_hashCode.data.toList.drop 0 = dktJ20_hashCode_0 := by decide +kernel
theorem dksJ20_hashCode_1 : cJ20_hashCode.data.toList.drop 24 = dktJ20_hashCode_1 := dk_seg dksJ20_hashCode_0 24 rfl rfl
theorem dksJ20_hashCode_2 : cJ20_hashCode.data.toList.drop 47 = dktJ20_hashCode_2 := dk_seg dksJ20_hashCode_1 23 rfl rfl
theorem dJ20_hashCode_0 : decode cJ20_hashCode 0 = .ok (.aload_n 0, 1) := dk_42 (dk_at dksJ20_hashCode_0 0 rfl rfl)
theorem dJ20_hashCode_1 : decode cJ20_hashCode 1 = .ok (.getfield 19, 3) := dk_180 0 19 (dk_at dksJ20_hashCode_0 1 rfl rfl)
theorem dJ20_hashCode_4 : decode cJ20_hashCode 4 = .ok (.istore_n 1, 1) := dk_60 (dk_at dksJ20_hashCode_0 4 rfl rfl)
theorem dJ20_hashCode_5 : decode cJ20_hashCode 5 = .ok (.iload_n 1, 1) := dk_27 (dk_at dksJ20_hashCode_0 5 rfl rfl)
theorem dJ20_hashCode_6 : decode cJ20_hashCode 6 = .ok (.ifCond .ne 52, 3) := dk_154 0 52 (dk_at dksJ20_hashCode_0 6 rfl rfl)
theorem dJ20_hashCode_9 : decode cJ20_hashCode 9 = .ok (.aload_n 0, 1) := dk_42 (dk_at dksJ20_hashCode_0 9 rfl rfl)
theorem dJ20_hashCode_10 : decode cJ20_hashCode 10 = .ok (.getfield 23, 3) := dk_180 0 23 (dk_at dksJ20_hashCode_0 10 rfl rfl)
theorem dJ20_hashCode_13 : decode cJ20_hashCode 13 = .ok (.ifCond .ne 45, 3) := dk_154 0 45 (dk_at dksJ20_hashCode_0 13 rfl rfl)
theorem dJ20_hashCode_16 : decode cJ20_hashCode 16 = .ok (.aload_n 0, 1) := dk_42 (dk_at dksJ20_hashCode_0 16 rfl rfl)
theorem dJ20_hashCode_17 : decode cJ20_hashCode 17 = .ok (.invokevirtual 492, 3) := dk_182 1 236 (dk_at dksJ20_hashCode_0 17 rfl rfl)
theorem dJ20_hashCode_20 : decode cJ20_hashCode 20 = .ok (.ifCond .eq 13, 3) := dk_153 0 13 (dk_at dksJ20_hashCode_0 20 rfl rfl)
theorem dJ20_hashCode_23 : decode cJ20_hashCode 23 = .ok (.aload_n 0, 1) := dk_42 (dk_at dksJ20_hashCode_0 23 rfl rfl)
theorem dJ20_hashCode_24 : decode cJ20_hashCode 24 = .ok (.getfield 9, 3) := dk_180 0 9 (dk_at dksJ20_hashCode_1 0 rfl rfl)
theorem dJ20_hashCode_27 : decode cJ20_hashCode 27 = .ok (.invokestatic 628, 3) := dk_184 2 116 (dk_at dksJ20_hashCode_1 3 rfl rfl)
theorem dJ20_hashCode_30 : decode cJ20_hashCode 30 = .ok (.goto 10, 3) := dk_167 0 10 (dk_at dksJ20_hashCode_1 6 rfl rfl)
theorem dJ20_hashCode_33 : decode cJ20_hashCode 33 = .ok (.aload_n 0, 1) := dk_42 (dk_at dksJ20_hashCode_1 9 rfl rfl)
theorem dJ20_hashCode_34 : decode cJ20_hashCode 34 = .ok (.getfield 9, 3) := dk_180 0 9 (dk_at dksJ20_hashCode_1 10 rfl rfl)
theorem dJ20_hashCode_37 : decode cJ20_hashCode 37 = .ok (.invokestatic 632, 3) := dk_184 2 120 (dk_at dksJ20_hashCode_1 13 rfl rfl)
theorem dJ20_hashCode_40 : decode cJ20_hashCode 40 = .ok (.istore_n 1, 1) := dk_60 (dk_at dksJ20_hashCode_1 16 rfl rfl)
theorem dJ20_hashCode_41 : decode cJ20_hashCode 41 = .ok (.iload_n 1, 1) := dk_27 (dk_at dksJ20_hashCode_1 17 rfl rfl)
theorem dJ20_hashCode_42 : decode cJ20_hashCode 42 = .ok (.ifCond .ne 11, 3) := dk_154 0 11 (dk_at dksJ20_hashCode_1 18 rfl rfl)
theorem dJ20_hashCode_45 : decode cJ20_hashCode 45 = .ok (.aload_n 0, 1) := dk_42 (dk_at dksJ20_hashCode_1 21 rfl rfl)
theorem dJ20_hashCode_46 : decode cJ20_hashCode 46 = .ok (.iconst 1, 1) := dk_4 (dk_at dksJ20_hashCode_1 22 rfl rfl)
theorem dJ20_hashCode_47 : decode cJ20_hashCode 47 = .ok (.putfield 23, 3) := dk_181 0 23 (dk_at dksJ20_hashCode_2 0 rfl rfl)
theorem dJ20_hashCode_50 : decode cJ20_hashCode 50 = .ok (.goto 8, 3) := dk_167 0 8 (dk_at dksJ20_hashCode_2 3 rfl rfl)
theorem dJ20_hashCode_53 : decode cJ20_hashCode 53 = .ok (.aload_n 0, 1) := dk_42 (dk_at dksJ20_hashCode_2 6 rfl rfl)
theorem dJ20_hashCode_54 : decode cJ20_hashCode 54 = .ok (.iload_n 1, 1) := dk_27 (dk_at dksJ20_hashCode_2 7 rfl rfl)
theorem dJ20_hashCode_55 : decode cJ20_hashCode 55 = .ok (.putfield 19, 3) := dk_181 0 19 (dk_at dksJ20_hashCode_2 8 rfl rfl)
theorem dJ20_hashCode_58 : decode cJ20_hashCode 58 = .ok (.iload_n 1, 1) := dk_27 (dk_at dksJ20_hashCode_2 11 rfl rfl)
theorem dJ20_hashCode_59 : decode cJ20_hashCode 59 = .ok (.ireturn, 1) := dk_172 (dk_at dksJ20_hashCode_2 12 rfl rfl)
abbrev cJ20_compareTo : ByteArray := prog_86_method_162_code
def yJ20_compareTo : MethodName := ⟨RJ20, "compareTo", "(Ljava/lang/Object;)I"⟩
def dkwJ20_compareTo_0 : List UInt8 := [42, 43, 192, 0, 10, 182, 4, 60, 172]
abbrev dktJ20_compareTo_0 : List UInt8 := dkwJ20_compareTo_0 ++ []
theorem dksJ20_compareTo_0 : cJ20_compareTo.data.toList.drop 0 = dktJ20_compareTo_0 := by decide +kernel
theorem dJ20_compareTo_0 : decode cJ20_compareTo 0 = .ok (.aload_n 0, 1) := dk_42 (dk_at dksJ20_compareTo_0 0 rfl rfl)
theorem dJ20_compareTo_1 : decode cJ20_compareTo 1 = .ok (.aload_n 1, 1) := dk_43 (dk_at dksJ20_compareTo_0 1 rfl rfl)
theorem dJ20_compareTo_2 : decode cJ20_compareTo 2 = .ok (.checkcast 10, 3) := dk_192 0 10 (dk_at dksJ20_compareTo_0 2 rfl rfl)
theorem dJ20_compareTo_5 : decode cJ20_compareTo 5 = .ok (.invokevirtual 1084, 3) := dk_182 4 60 (dk_at dksJ20_compareTo_0 5 rfl rfl)
theorem dJ20_compareTo_8 : decode cJ20_compareTo 8 = .ok (.ireturn, 1) := dk_172 (dk_at dksJ20_compareTo_0 8 rfl rfl)
abbrev cJ20_compareTo_2 : ByteArray := prog_86_method_71_code
def yJ20_compareTo_2 : MethodName := ⟨RJ20, "compareTo", "(Ljava/lang/String;)I"⟩
def dkwJ20_compareTo_2_2 : List UInt8 := [154, 0, 11, 44, 45, 184, 2, 79, 167, 0, 8, 44, 45, 184, 2, 82, 172]
abbrev dktJ20_compareTo_2_2 : List UInt8 := dkwJ20_compareTo_2_2 ++ []
def dkwJ20_compareTo_2_1 : List UInt8 := [160, 0, 22, 21, 4, 154, 0, 11, 44, 45, 184, 2, 74, 167, 0, 8, 44, 45, 184, 2, 78, 172, 21, 4]
abbrev dktJ20_compareTo_2_1 : List UInt8 := dkwJ20_compareTo_2_1 ++ dktJ20_compareTo_2_2
def dkwJ20_compareTo_2_0 : List UInt8 := [42, 180, 0, 9, 77, 43, 180, 0, 9, 78, 42, 182, 1, 79, 54, 4, 21, 4, 43, 182, 1, 79]
abbrev dktJ20_compareTo_2_0 : List UInt8 := dkwJ20_compareTo_2_0 ++ dktJ20_compareTo_2_1
theorem dksJ20_compareTo_2_0 : cJ20_compareTo_2.data.toList.drop 0 = dktJ20_compareTo_2_0 := by decide +kernel
theorem dksJ20_compareTo_2_1 : cJ20_compareTo_2.data.toList.drop 22 = dktJ20_compareTo_2_1 := dk_seg dksJ20_compareTo_2_0 22 rfl rfl
theorem dksJ20_compareTo_2_2 : cJ20_compareTo_2.data.toList.drop 46 = dktJ20_compareTo_2_2 := dk_seg dksJ20_compareTo_2_1 24 rfl rfl
theorem dJ20_compareTo_2_0 : decode cJ20_compareTo_2 0 = .ok (.aload_n 0, 1) := dk_42 (dk_at dksJ20_compareTo_2_0 0 rfl rfl)
theorem dJ20_compareTo_2_1 : decode cJ20_compareTo_2 1 = .ok (.getfield 9, 3) := dk_180 0 9 (dk_at dksJ20_compareTo_2_0 1 rfl rfl)
theorem dJ20_compareTo_2_4 : decode cJ20_compareTo_2 4 = .ok (.astore_n 2, 1) := dk_77 (dk_at dksJ20_compareTo_2_0 4 rfl rfl)
theorem dJ20_compareTo_2_5 : decode cJ20_compareTo_2 5 = .ok (.aload_n 1, 1) := dk_43 (dk_at dksJ20_compareTo_2_0 5 rfl rfl)
theorem dJ20_compareTo_2_6 : decode cJ20_compareTo_2 6 = .ok (.getfield 9, 3) := dk_180 0 9 (dk_at dksJ20_compareTo_2_0 6 rfl rfl)
theorem dJ20_compareTo_2_9 : decode cJ20_compareTo_2 9 = .ok (.astore_n 3, 1) := dk_78 (dk_at dksJ20_compareTo_2_0 9 rfl rfl)
theorem dJ20_compareTo_2_10 : decode cJ20_compareTo_2 10 = .ok (.aload_n 0, 1) := dk_42 (dk_at dksJ20_compareTo_2_0 10 rfl rfl)
theorem dJ20_compareTo_2_11 : decode cJ20_compareTo_2 11 = .ok (.invokevirtual 335, 3) := dk_182 1 79 (dk_at dksJ20_compareTo_2_0 11 rfl rfl)
theorem dJ20_compareTo_2_14 : decode cJ20_compareTo_2 14 = .ok (.istore 4, 2) := dk_54 4 (dk_at dksJ20_compareTo_2_0 14 rfl rfl)
theorem dJ20_compareTo_2_16 : decode cJ20_compareTo_2 16 = .ok (.iload 4, 2) := dk_21 4 (dk_at dksJ20_compareTo_2_0 16 rfl rfl)
theorem dJ20_compareTo_2_18 : decode cJ20_compareTo_2 18 = .ok (.aload_n 1, 1) := dk_43 (dk_at dksJ20_compareTo_2_0 18 rfl rfl)
theorem dJ20_compareTo_2_19 : decode cJ20_compareTo_2 19 = .ok (.invokevirtual 335, 3) := dk_182 1 79 (dk_at dksJ20_compareTo_2_0 19 rfl rfl)
theorem dJ20_compareTo_2_22 : decode cJ20_compareTo_2 22 = .ok (.if_icmp .ne 22, 3) := dk_160 0 22 (dk_at dksJ20_compareTo_2_1 0 rfl rfl)
theorem dJ20_compareTo_2_25 : decode cJ20_compareTo_2 25 = .ok (.iload 4, 2) := dk_21 4 (dk_at dksJ20_compareTo_2_1 3 rfl rfl)
theorem dJ20_compareTo_2_27 : decode cJ20_compareTo_2 27 = .ok (.ifCond .ne 11, 3) := dk_154 0 11 (dk_at dksJ20_compareTo_2_1 5 rfl rfl)
theorem dJ20_compareTo_2_30 : decode cJ20_compareTo_2 30 = .ok (.aload_n 2, 1) := dk_44 (dk_at dksJ20_compareTo_2_1 8 rfl rfl)
theorem dJ20_compareTo_2_31 : decode cJ20_compareTo_2 31 = .ok (.aload_n 3, 1) := dk_45 (dk_at dksJ20_compareTo_2_1 9 rfl rfl)
theorem dJ20_compareTo_2_32 : decode cJ20_compareTo_2 32 = .ok (.invokestatic 586, 3) := dk_184 2 74 (dk_at dksJ20_compareTo_2_1 10 rfl rfl)
theorem dJ20_compareTo_2_35 : decode cJ20_compareTo_2 35 = .ok (.goto 8, 3) := dk_167 0 8 (dk_at dksJ20_compareTo_2_1 13 rfl rfl)
theorem dJ20_compareTo_2_38 : decode cJ20_compareTo_2 38 = .ok (.aload_n 2, 1) := dk_44 (dk_at dksJ20_compareTo_2_1 16 rfl rfl)
theorem dJ20_compareTo_2_39 : decode cJ20_compareTo_2 39 = .ok (.aload_n 3, 1) := dk_45 (dk_at dksJ20_compareTo_2_1 17 rfl rfl)
theorem dJ20_compareTo_2_40 : decode cJ20_compareTo_2 40 = .ok (.invokestatic 590, 3) := dk_184 2 78 (dk_at dksJ20_compareTo_2_1 18 rfl rfl)
theorem dJ20_compareTo_2_43 : decode cJ20_compareTo_2 43 = .ok (.ireturn, 1) := dk_172 (dk_at dksJ20_compareTo_2_1 21 rfl rfl)
theorem dJ20_compareTo_2_44 : decode cJ20_compareTo_2 44 = .ok (.iload 4, 2) := dk_21 4 (dk_at dksJ20_compareTo_2_1 22 rfl rfl)
theorem dJ20_compareTo_2_46 : decode cJ20_compareTo_2 46 = .ok (.ifCond .ne 11, 3) := dk_154 0 11 (dk_at dksJ20_compareTo_2_2 0 rfl rfl)
theorem dJ20_compareTo_2_49 : decode cJ20_compareTo_2 49 = .ok (.aload_n 2, 1) := dk_44 (dk_at dksJ20_compareTo_2_2 3 rfl rfl)
theorem dJ20_compareTo_2_50 : decode cJ20_compareTo_2 50 = .ok (.aload_n 3, 1) := dk_45 (dk_at dksJ20_compareTo_2_2 4 rfl rfl)
theorem dJ20_compareTo_2_51 : decode cJ20_compareTo_2 51 = .ok (.invokestatic 591, 3) := dk_184 2 79 (dk_at dksJ20_compareTo_2_2 5 rfl rfl)
theorem dJ20_compareTo_2_54 : decode cJ20_compareTo_2 54 = .ok (.goto 8, 3) := dk_167 0 8 (dk_at dksJ20_compareTo_2_2 8 rfl rfl)
theorem dJ20_compareTo_2_57 : decode cJ20_compareTo_2 57 = .ok (.aload_n 2, 1) := dk_44 (dk_at dksJ20_compareTo_2_2 11 rfl rfl)
theorem dJ20_compareTo_2_58 : decode cJ20_compareTo_2 58 = .ok (.aload_n 3, 1) := dk_45 (dk_at dksJ20_compareTo_2_2 12 rfl rfl)
theorem dJ20_compareTo_2_59 : decode cJ20_compareTo_2 59 = .ok (.invokestatic 594, 3) := dk_184 2 82 (dk_at dksJ20_compareTo_2_2 13 rfl rfl)
theorem dJ20_compareTo_2_62 : decode cJ20_compareTo_2 62 = .ok (.ireturn, 1) := dk_172 (dk_at dksJ20_compareTo_2_2 16 rfl rfl)
abbrev cJ20_checkOffset : ByteArray := prog_86_method_156_code
def yJ20_checkOffset : MethodName := ⟨RJ20, "checkOffset", "(II)V"⟩
def dkwJ20_checkOffset_0 : List UInt8 := [26, 27, 27, 178, 4, 29, 184, 4, 38, 87, 177]
abbrev dktJ20_checkOffset_0 : List UInt8 := dkwJ20_checkOffset_0 ++ []
theorem dksJ20_checkOffset_0 : cJ20_checkOffset.data.toList.drop 0 = dktJ20_checkOffset_0 := by decide +kernel
theorem dJ20_checkOffset_0 : decode cJ20_checkOffset 0 = .ok (.iload_n 0, 1) := dk_26 (dk_at dksJ20_checkOffset_0 0 rfl rfl)
theorem dJ20_checkOffset_1 : decode cJ20_checkOffset 1 = .ok (.iload_n 1, 1) := dk_27 (dk_at dksJ20_checkOffset_0 1 rfl rfl)
theorem dJ20_checkOffset_2 : decode cJ20_checkOffset 2 = .ok (.iload_n 1, 1) := dk_27 (dk_at dksJ20_checkOffset_0 2 rfl rfl)
theorem dJ20_checkOffset_3 : decode cJ20_checkOffset 3 = .ok (.getstatic 1053, 3) := dk_178 4 29 (dk_at dksJ20_checkOffset_0 3 rfl rfl)
theorem dJ20_checkOffset_6 : decode cJ20_checkOffset 6 = .ok (.invokestatic 1062, 3) := dk_184 4 38 (dk_at dksJ20_checkOffset_0 6 rfl rfl)
theorem dJ20_checkOffset_9 : decode cJ20_checkOffset 9 = .ok (.pop, 1) := dk_87 (dk_at dksJ20_checkOffset_0 9 rfl rfl)
theorem dJ20_checkOffset_10 : decode cJ20_checkOffset 10 = .ok (.return_, 1) := dk_177 (dk_at dksJ20_checkOffset_0 10 rfl rfl)
abbrev cJ20_init_3 : ByteArray := prog_86_method_151_code
def yJ20_init_3 : MethodName := ⟨RJ20, "<init>", "([BB)V"⟩
def dkwJ20_init_3_0 : List UInt8 := [42, 183, 0, 1, 42, 43, 181, 0, 9, 42, 28, 181, 0, 15, 177]
abbrev dktJ20_init_3_0 : List UInt8 := dkwJ20_init_3_0 ++ []
theorem dksJ20_init_3_0 : cJ20_init_3.data.toList.drop 0 = dktJ20_init_3_0 := by decide +kernel
theorem dJ20_init_3_0 : decode cJ20_init_3 0 = .ok (.aload_n 0, 1) := dk_42 (dk_at dksJ20_init_3_0 0 rfl rfl)
theorem dJ20_init_3_1 : decode cJ20_init_3 1 = .ok (.invokespecial 1, 3) := dk_183 0 1 (dk_at dksJ20_init_3_0 1 rfl rfl)
theorem dJ20_init_3_4 : decode cJ20_init_3 4 = .ok (.aload_n 0, 1) := dk_42 (dk_at dksJ20_init_3_0 4 rfl rfl)
theorem dJ20_init_3_5 : decode cJ20_init_3 5 = .ok (.aload_n 1, 1) := dk_43 (dk_at dksJ20_init_3_0 5 rfl rfl)
theorem dJ20_init_3_6 : decode cJ20_init_3 6 = .ok (.putfield 9, 3) := dk_181 0 9 (dk_at dksJ20_init_3_0 6 rfl rfl)
theorem dJ20_init_3_9 : decode cJ20_init_3 9 = .ok (.aload_n 0, 1) := dk_42 (dk_at dksJ20_init_3_0 9 rfl rfl)
theorem dJ20_init_3_10 : decode cJ20_init_3 10 = .ok (.iload_n 2, 1) := dk_28 (dk_at dksJ20_init_3_0 10 rfl rfl)
theorem dJ20_init_3_11 : decode cJ20_init_3 11 = .ok (.putfield 15, 3) := dk_181 0 15 (dk_at dksJ20_init_3_0 11 rfl rfl)
theorem dJ20_init_3_14 : decode cJ20_init_3 14 = .ok (.return_, 1) := dk_177 (dk_at dksJ20_init_3_0 14 rfl rfl)
theorem q471 : (Jvm.Cond.initialized "java/lang/String") ∈ lw_all := lw_g (lw_at lw_m1 79 rfl) rfl
theorem q2039 : (Jvm.Cond.selects "java/lang/String" ({ cls := "java/lang/Object", name := "getClass", desc := "()Ljava/lang/Class;" } : Jvm.MethodName) ({ cls := "java/lang/Object", name := "getClass", desc := "()Ljava/lang/Class;" } : Jvm.MethodName)) ∈ lw_all := lw_g (lw_at lw_m7 207 rfl) rfl
theorem q2633 : (Jvm.Cond.laysStatic "java/lang/String" "COMPACT_STRINGS" "Z") ∈ lw_tbl := lw_at lw_m10 81 rfl
theorem q2643 : (Jvm.Cond.fieldLink "java/lang/String" (1048 : Nat) "java/lang/AbstractStringBuilder" "maybeLatin1" "Z") ∈ lw_all := lw_g (lw_at lw_m10 91 rfl) rfl
theorem q2704 : (Jvm.Cond.static ({ cls := "java/lang/String", name := "checkBoundsOffCount", desc := "(III)I" } : Jvm.MethodName)) ∈ lw_all := lw_g (lw_at lw_m10 152 rfl) rfl
theorem q2705 : (Jvm.Cond.code ({ cls := "java/lang/String", name := "checkBoundsOffCount", desc := "(III)I" } : Jvm.MethodName) prog_86_method_157_code (3 : Nat) (Option.some Jvm.ClassFile.FieldType.int)) ∈ lw_all := lw_g (lw_at lw_m10 153 rfl) rfl
theorem q2706 : (Jvm.Cond.fieldLink "java/lang/String" (1053 : Nat) "jdk/internal/util/Preconditions" "SIOOBE_FORMATTER" "Ljava/util/function/BiFunction;") ∈ lw_all := lw_g (lw_at lw_m10 154 rfl) rfl
theorem q2708 : (Jvm.Cond.methodLink "java/lang/String" (1065 : Nat) ({ cls := "jdk/internal/util/Preconditions", name := "checkFromIndexSize", desc := "(IIILjava/util/function/BiFunction;)I" } : Jvm.MethodName)) ∈ lw_all := lw_g (lw_at lw_m10 156 rfl) rfl
theorem q2727 : (Jvm.Cond.static ({ cls := "java/lang/String", name := "checkIndex", desc := "(II)V" } : Jvm.MethodName)) ∈ lw_all := lw_g (lw_at lw_m10 175 rfl) rfl
theorem q2728 : (Jvm.Cond.code ({ cls := "java/lang/String", name := "checkIndex", desc := "(II)V" } : Jvm.MethodName) prog_86_method_155_code (2 : Nat) (Option.none : Option Jvm.ClassFile.FieldType)) ∈ lw_all := lw_g (lw_at lw_m10 176 rfl) rfl
theorem q2729 : (Jvm.Cond.methodLink "java/lang/String" (1059 : Nat) ({ cls := "jdk/internal/util/Preconditions", name := "checkIndex", desc := "(IILjava/util/function/BiFunction;)I" } : Jvm.MethodName)) ∈ lw_all := lw_g (lw_at lw_m10 177 rfl) rfl
theorem q2737 : (Jvm.Cond.instantiable "java/lang/String" (4 : Nat)) ∈ lw_all := lw_g (lw_at lw_m10 185 rfl) rfl
theorem q2739 : (Jvm.Cond.instanceMethod ({ cls := "java/lang/String", name := "<init>", desc := "(Ljava/lang/StringBuilder;)V" } : Jvm.MethodName)) ∈ lw_all := lw_g (lw_at lw_m10 187 rfl) rfl
theorem q2740 : (Jvm.Cond.code ({ cls := "java/lang/String", name := "<init>", desc := "(Ljava/lang/StringBuilder;)V" } : Jvm.MethodName) prog_86_method_53_code (2 : Nat) (Option.none : Option Jvm.ClassFile.FieldType)) ∈ lw_all := lw_g (lw_at lw_m10 188 rfl) rfl
theorem q2741 : (Jvm.Cond.methodLink "java/lang/String" (489 : Nat) ({ cls := "java/lang/String", name := "<init>", desc := "(Ljava/lang/AbstractStringBuilder;Ljava/lang/Void;)V" } : Jvm.MethodName)) ∈ lw_all := lw_g (lw_at lw_m10 189 rfl) rfl
theorem q2742 : (Jvm.Cond.instanceMethod ({ cls := "java/lang/String", name := "<init>", desc := "(Ljava/lang/AbstractStringBuilder;Ljava/lang/Void;)V" } : Jvm.MethodName)) ∈ lw_all := lw_g (lw_at lw_m10 190 rfl) rfl
theorem q2743 : (Jvm.Cond.code ({ cls := "java/lang/String", name := "<init>", desc := "(Ljava/lang/AbstractStringBuilder;Ljava/lang/Void;)V" } : Jvm.MethodName) prog_86_method_150_code (5 : Nat) (Option.none : Option Jvm.ClassFile.FieldType)) ∈ lw_all := lw_g (lw_at lw_m10 191 rfl) rfl
theorem q2744 : (Jvm.Cond.methodLink "java/lang/String" (1 : Nat) ({ cls := "java/lang/Object", name := "<init>", desc := "()V" } : Jvm.MethodName)) ∈ lw_all := lw_g (lw_at lw_m10 192 rfl) rfl
theorem q2745 : (Jvm.Cond.methodLink "java/lang/String" (552 : Nat) ({ cls := "java/lang/AbstractStringBuilder", name := "getValue", desc := "()[B" } : Jvm.MethodName)) ∈ lw_all := lw_g (lw_at lw_m10 193 rfl) rfl
theorem q2750 : (Jvm.Cond.methodLink "java/lang/String" (549 : Nat) ({ cls := "java/lang/AbstractStringBuilder", name := "length", desc := "()I" } : Jvm.MethodName)) ∈ lw_all := lw_g (lw_at lw_m10 198 rfl) rfl
theorem q2758 : (Jvm.Cond.methodLink "java/lang/String" (1047 : Nat) ({ cls := "java/lang/AbstractStringBuilder", name := "isLatin1", desc := "()Z" } : Jvm.MethodName)) ∈ lw_all := lw_g (lw_at lw_m10 206 rfl) rfl
theorem q2759 : (Jvm.Cond.methodLink "java/lang/String" (54 : Nat) ({ cls := "java/util/Arrays", name := "copyOfRange", desc := "([BII)[B" } : Jvm.MethodName)) ∈ lw_all := lw_g (lw_at lw_m10 207 rfl) rfl
theorem q2836 : (Jvm.Cond.static ({ cls := "java/lang/String", name := "checkBoundsBeginEnd", desc := "(III)V" } : Jvm.MethodName)) ∈ lw_all := lw_g (lw_at lw_m11 44 rfl) rfl
theorem q2837 : (Jvm.Cond.code ({ cls := "java/lang/String", name := "checkBoundsBeginEnd", desc := "(III)V" } : Jvm.MethodName) prog_86_method_158_code (3 : Nat) (Option.none : Option Jvm.ClassFile.FieldType)) ∈ lw_all := lw_g (lw_at lw_m11 45 rfl) rfl
theorem q2838 : (Jvm.Cond.methodLink "java/lang/String" (1062 : Nat) ({ cls := "jdk/internal/util/Preconditions", name := "checkFromToIndex", desc := "(IIILjava/util/function/BiFunction;)I" } : Jvm.MethodName)) ∈ lw_all := lw_g (lw_at lw_m11 46 rfl) rfl
theorem q2862 : (Jvm.Cond.instanceMethod ({ cls := "java/lang/String", name := "length", desc := "()I" } : Jvm.MethodName)) ∈ lw_all := lw_g (lw_at lw_m11 70 rfl) rfl
theorem q2863 : (Jvm.Cond.selects "java/lang/String" ({ cls := "java/lang/String", name := "length", desc := "()I" } : Jvm.MethodName) ({ cls := "java/lang/String", name := "length", desc := "()I" } : Jvm.MethodName)) ∈ lw_all := lw_g (lw_at lw_m11 71 rfl) rfl
theorem q2864 : (Jvm.Cond.code ({ cls := "java/lang/String", name := "length", desc := "()I" } : Jvm.MethodName) prog_86_method_54_code (1 : Nat) (Option.some Jvm.ClassFile.FieldType.int)) ∈ lw_all := lw_g (lw_at lw_m11 72 rfl) rfl
theorem q2865 : (Jvm.Cond.methodLink "java/lang/String" (335 : Nat) ({ cls := "java/lang/String", name := "coder", desc := "()B" } : Jvm.MethodName)) ∈ lw_all := lw_g (lw_at lw_m11 73 rfl) rfl
theorem q2866 : (Jvm.Cond.instanceMethod ({ cls := "java/lang/String", name := "coder", desc := "()B" } : Jvm.MethodName)) ∈ lw_all := lw_g (lw_at lw_m11 74 rfl) rfl
theorem q2867 : (Jvm.Cond.selects "java/lang/String" ({ cls := "java/lang/String", name := "coder", desc := "()B" } : Jvm.MethodName) ({ cls := "java/lang/String", name := "coder", desc := "()B" } : Jvm.MethodName)) ∈ lw_all := lw_g (lw_at lw_m11 75 rfl) rfl
theorem q2868 : (Jvm.Cond.code ({ cls := "java/lang/String", name := "coder", desc := "()B" } : Jvm.MethodName) prog_86_method_152_code (1 : Nat) (Option.some Jvm.ClassFile.FieldType.byte)) ∈ lw_all := lw_g (lw_at lw_m11 76 rfl) rfl
theorem q2869 : (Jvm.Cond.fieldLink "java/lang/String" (38 : Nat) "java/lang/String" "COMPACT_STRINGS" "Z") ∈ lw_all := lw_g (lw_at lw_m11 77 rfl) rfl
theorem q2880 : (Jvm.Cond.instanceMethod ({ cls := "java/lang/String", name := "getBytes", desc := "([BIB)V" } : Jvm.MethodName)) ∈ lw_all := lw_g (lw_at lw_m11 88 rfl) rfl
theorem q2881 : (Jvm.Cond.selects "java/lang/String" ({ cls := "java/lang/String", name := "getBytes", desc := "([BIB)V" } : Jvm.MethodName) ({ cls := "java/lang/String", name := "getBytes", desc := "([BIB)V" } : Jvm.MethodName)) ∈ lw_all := lw_g (lw_at lw_m11 89 rfl) rfl
theorem q2882 : (Jvm.Cond.code ({ cls := "java/lang/String", name := "getBytes", desc := "([BIB)V" } : Jvm.MethodName) prog_86_method_147_code (4 : Nat) (Option.none : Option Jvm.ClassFile.FieldType)) ∈ lw_all := lw_g (lw_at lw_m11 90 rfl) rfl
theorem q2883 : (Jvm.Cond.methodLink "java/lang/String" (212 : Nat) ({ cls := "java/lang/System", name := "arraycopy", desc := "(Ljava/lang/Object;ILjava/lang/Object;II)V" } : Jvm.MethodName)) ∈ lw_all := lw_g (lw_at lw_m11 91 rfl) rfl
theorem q2884 : (Jvm.Cond.methodLink "java/lang/String" (106 : Nat) ({ cls := "java/lang/StringLatin1", name := "inflate", desc := "([BI[BII)V" } : Jvm.MethodName)) ∈ lw_all := lw_g (lw_at lw_m11 92 rfl) rfl
theorem q2911 : (Jvm.Cond.methodLink "java/lang/String" (1051 : Nat) ({ cls := "java/lang/StringUTF16", name := "compress", desc := "([BII)[B" } : Jvm.MethodName)) ∈ lw_all := lw_g (lw_at lw_m11 119 rfl) rfl
theorem q2921 : (Jvm.Cond.methodLink "java/lang/String" (47 : Nat) ({ cls := "java/lang/StringUTF16", name := "coderFromArrayLen", desc := "([BI)B" } : Jvm.MethodName)) ∈ lw_all := lw_g (lw_at lw_m11 129 rfl) rfl
theorem q2924 : (Jvm.Cond.fieldLink "java/lang/String" (9 : Nat) "java/lang/String" "value" "[B") ∈ lw_all := lw_g (lw_at lw_m11 132 rfl) rfl
theorem q2925 : (Jvm.Cond.fieldLink "java/lang/String" (15 : Nat) "java/lang/String" "coder" "B") ∈ lw_all := lw_g (lw_at lw_m11 133 rfl) rfl
theorem q2926 : (Jvm.Cond.fieldLink "java/lang/String" (19 : Nat) "java/lang/String" "hash" "I") ∈ lw_all := lw_g (lw_at lw_m11 134 rfl) rfl
theorem q2927 : (Jvm.Cond.fieldLink "java/lang/String" (23 : Nat) "java/lang/String" "hashIsZero" "Z") ∈ lw_all := lw_g (lw_at lw_m11 135 rfl) rfl
theorem q2928 : (Jvm.Cond.laysFinal "java/lang/String" "java/lang/String" "value" "[B") ∈ lw_all := lw_g (lw_at lw_m11 136 rfl) rfl
theorem q2929 : (Jvm.Cond.soleField "java/lang/String" "value") ∈ lw_all := lw_g (lw_at lw_m11 137 rfl) rfl
theorem q2930 : (Jvm.Cond.laysFinal "java/lang/String" "java/lang/String" "coder" "B") ∈ lw_all := lw_g (lw_at lw_m11 138 rfl) rfl
theorem q2931 : (Jvm.Cond.soleField "java/lang/String" "coder") ∈ lw_all := lw_g (lw_at lw_m11 139 rfl) rfl
theorem q2932 : (Jvm.Cond.lays "java/lang/String" "java/lang/String" "hash" "I") ∈ lw_all := lw_g (lw_at lw_m11 140 rfl) rfl
theorem q2933 : (Jvm.Cond.soleField "java/lang/String" "hash") ∈ lw_all := lw_g (lw_at lw_m11 141 rfl) rfl
theorem q2934 : (Jvm.Cond.lays "java/lang/String" "java/lang/String" "hashIsZero" "Z") ∈ lw_all := lw_g (lw_at lw_m11 142 rfl) rfl
theorem q2935 : (Jvm.Cond.soleField "java/lang/String" "hashIsZero") ∈ lw_all := lw_g (lw_at lw_m11 143 rfl) rfl
theorem q2936 : (Jvm.Cond.superclass "java/lang/String" "java/lang/Object") ∈ lw_all := lw_g (lw_at lw_m11 144 rfl) rfl
theorem q3047 : (Jvm.Cond.instanceMethod ({ cls := "java/lang/String", name := "equals", desc := "(Ljava/lang/Object;)Z" } : Jvm.MethodName)) ∈ lw_all := lw_g (lw_at lw_m12 15 rfl) rfl
theorem q3048 : (Jvm.Cond.selects "java/lang/String" ({ cls := "java/lang/String", name := "equals", desc := "(Ljava/lang/Object;)Z" } : Jvm.MethodName) ({ cls := "java/lang/String", name := "equals", desc := "(Ljava/lang/Object;)Z" } : Jvm.MethodName)) ∈ lw_all := lw_g (lw_at lw_m12 16 rfl) rfl
theorem q3049 : (Jvm.Cond.code ({ cls := "java/lang/String", name := "equals", desc := "(Ljava/lang/Object;)Z" } : Jvm.MethodName) prog_86_method_66_code (3 : Nat) (Option.some Jvm.ClassFile.FieldType.boolean)) ∈ lw_all := lw_g (lw_at lw_m12 17 rfl) rfl
theorem q3050 : (Jvm.Cond.classLink "java/lang/String" (10 : Nat) "java/lang/String") ∈ lw_all := lw_g (lw_at lw_m12 18 rfl) rfl
theorem q3051 : (Jvm.Cond.methodLink "java/lang/String" (541 : Nat) ({ cls := "java/lang/StringLatin1", name := "equals", desc := "([B[B)Z" } : Jvm.MethodName)) ∈ lw_all := lw_g (lw_at lw_m12 19 rfl) rfl
theorem q3163 : (Jvm.Cond.selects "java/lang/String" ({ cls := "java/lang/Object", name := "equals", desc := "(Ljava/lang/Object;)Z" } : Jvm.MethodName) ({ cls := "java/lang/String", name := "equals", desc := "(Ljava/lang/Object;)Z" } : Jvm.MethodName)) ∈ lw_all := lw_g (lw_at lw_m12 131 rfl) rfl
theorem q3211 : (Jvm.Cond.instanceMethod ({ cls := "java/lang/String", name := "charAt", desc := "(I)C" } : Jvm.MethodName)) ∈ lw_all := lw_g (lw_at lw_m12 179 rfl) rfl
theorem q3212 : (Jvm.Cond.selects "java/lang/String" ({ cls := "java/lang/String", name := "charAt", desc := "(I)C" } : Jvm.MethodName) ({ cls := "java/lang/String", name := "charAt", desc := "(I)C" } : Jvm.MethodName)) ∈ lw_all := lw_g (lw_at lw_m12 180 rfl) rfl
theorem q3213 : (Jvm.Cond.code ({ cls := "java/lang/String", name := "charAt", desc := "(I)C" } : Jvm.MethodName) prog_86_method_56_code (2 : Nat) (Option.some Jvm.ClassFile.FieldType.char)) ∈ lw_all := lw_g (lw_at lw_m12 181 rfl) rfl
theorem q3214 : (Jvm.Cond.methodLink "java/lang/String" (492 : Nat) ({ cls := "java/lang/String", name := "isLatin1", desc := "()Z" } : Jvm.MethodName)) ∈ lw_all := lw_g (lw_at lw_m12 182 rfl) rfl
theorem q3215 : (Jvm.Cond.instanceMethod ({ cls := "java/lang/String", name := "isLatin1", desc := "()Z" } : Jvm.MethodName)) ∈ lw_all := lw_g (lw_at lw_m12 183 rfl) rfl
theorem q3216 : (Jvm.Cond.selects "java/lang/String" ({ cls := "java/lang/String", name := "isLatin1", desc := "()Z" } : Jvm.MethodName) ({ cls := "java/lang/String", name := "isLatin1", desc := "()Z" } : Jvm.MethodName)) ∈ lw_all := lw_g (lw_at lw_m12 184 rfl) rfl
theorem q3217 : (Jvm.Cond.code ({ cls := "java/lang/String", name := "isLatin1", desc := "()Z" } : Jvm.MethodName) prog_86_method_154_code (1 : Nat) (Option.some Jvm.ClassFile.FieldType.boolean)) ∈ lw_all := lw_g (lw_at lw_m12 185 rfl) rfl
theorem q3218 : (Jvm.Cond.methodLink "java/lang/String" (495 : Nat) ({ cls := "java/lang/StringLatin1", name := "charAt", desc := "([BI)C" } : Jvm.MethodName)) ∈ lw_all := lw_g (lw_at lw_m12 186 rfl) rfl
theorem q3222 : (Jvm.Cond.methodLink "java/lang/String" (498 : Nat) ({ cls := "java/lang/StringUTF16", name := "charAt", desc := "([BI)C" } : Jvm.MethodName)) ∈ lw_all := lw_g (lw_at lw_m12 190 rfl) rfl
theorem q3677 : (Jvm.Cond.selects "java/lang/String" ({ cls := "java/lang/Object", name := "hashCode", desc := "()I" } : Jvm.MethodName) ({ cls := "java/lang/String", name := "hashCode", desc := "()I" } : Jvm.MethodName)) ∈ lw_all := lw_g (lw_at lw_m14 165 rfl) rfl
theorem q3678 : (Jvm.Cond.instanceMethod ({ cls := "java/lang/String", name := "hashCode", desc := "()I" } : Jvm.MethodName)) ∈ lw_all := lw_g (lw_at lw_m14 166 rfl) rfl
theorem q3679 : (Jvm.Cond.code ({ cls := "java/lang/String", name := "hashCode", desc := "()I" } : Jvm.MethodName) prog_86_method_78_code (2 : Nat) (Option.some Jvm.ClassFile.FieldType.int)) ∈ lw_all := lw_g (lw_at lw_m14 167 rfl) rfl
theorem q3680 : (Jvm.Cond.methodLink "java/lang/String" (628 : Nat) ({ cls := "java/lang/StringLatin1", name := "hashCode", desc := "([B)I" } : Jvm.MethodName)) ∈ lw_all := lw_g (lw_at lw_m14 168 rfl) rfl
theorem q3729 : (Jvm.Cond.methodLink "java/lang/String" (632 : Nat) ({ cls := "java/lang/StringUTF16", name := "hashCode", desc := "([B)I" } : Jvm.MethodName)) ∈ lw_all := lw_g (lw_at lw_m14 217 rfl) rfl
theorem q3864 : (Jvm.Cond.castable "java/lang/String" "java/lang/Comparable") ∈ lw_tbl := lw_at lw_m15 112 rfl
theorem q3865 : (Jvm.Cond.selects "java/lang/String" ({ cls := "java/lang/Comparable", name := "compareTo", desc := "(Ljava/lang/Object;)I" } : Jvm.MethodName) ({ cls := "java/lang/String", name := "compareTo", desc := "(Ljava/lang/Object;)I" } : Jvm.MethodName)) ∈ lw_all := lw_g (lw_at lw_m15 113 rfl) rfl
theorem q3866 : (Jvm.Cond.unhidden "java/lang/String" "compareTo" "(Ljava/lang/Object;)I") ∈ lw_tbl := lw_at lw_m15 114 rfl
theorem q3867 : (Jvm.Cond.instanceMethod ({ cls := "java/lang/String", name := "compareTo", desc := "(Ljava/lang/Object;)I" } : Jvm.MethodName)) ∈ lw_all := lw_g (lw_at lw_m15 115 rfl) rfl
theorem q3868 : (Jvm.Cond.publicMethod ({ cls := "java/lang/String", name := "compareTo", desc := "(Ljava/lang/Object;)I" } : Jvm.MethodName)) ∈ lw_tbl := lw_at lw_m15 116 rfl
theorem q3869 : (Jvm.Cond.code ({ cls := "java/lang/String", name := "compareTo", desc := "(Ljava/lang/Object;)I" } : Jvm.MethodName) prog_86_method_162_code (2 : Nat) (Option.some Jvm.ClassFile.FieldType.int)) ∈ lw_all := lw_g (lw_at lw_m15 117 rfl) rfl
theorem q3870 : (Jvm.Cond.methodLink "java/lang/String" (1084 : Nat) ({ cls := "java/lang/String", name := "compareTo", desc := "(Ljava/lang/String;)I" } : Jvm.MethodName)) ∈ lw_all := lw_g (lw_at lw_m15 118 rfl) rfl
theorem q3871 : (Jvm.Cond.instanceMethod ({ cls := "java/lang/String", name := "compareTo", desc := "(Ljava/lang/String;)I" } : Jvm.MethodName)) ∈ lw_all := lw_g (lw_at lw_m15 119 rfl) rfl
theorem q3872 : (Jvm.Cond.selects "java/lang/String" ({ cls := "java/lang/String", name := "compareTo", desc := "(Ljava/lang/String;)I" } : Jvm.MethodName) ({ cls := "java/lang/String", name := "compareTo", desc := "(Ljava/lang/String;)I" } : Jvm.MethodName)) ∈ lw_all := lw_g (lw_at lw_m15 120 rfl) rfl
theorem q3873 : (Jvm.Cond.code ({ cls := "java/lang/String", name := "compareTo", desc := "(Ljava/lang/String;)I" } : Jvm.MethodName) prog_86_method_71_code (5 : Nat) (Option.some Jvm.ClassFile.FieldType.int)) ∈ lw_all := lw_g (lw_at lw_m15 121 rfl) rfl
theorem q3874 : (Jvm.Cond.methodLink "java/lang/String" (586 : Nat) ({ cls := "java/lang/StringLatin1", name := "compareTo", desc := "([B[B)I" } : Jvm.MethodName)) ∈ lw_all := lw_g (lw_at lw_m15 122 rfl) rfl
theorem q3985 : (Jvm.Cond.methodLink "java/lang/String" (590 : Nat) ({ cls := "java/lang/StringUTF16", name := "compareTo", desc := "([B[B)I" } : Jvm.MethodName)) ∈ lw_all := lw_g (lw_at lw_m15 233 rfl) rfl
theorem q3992 : (Jvm.Cond.methodLink "java/lang/String" (591 : Nat) ({ cls := "java/lang/StringLatin1", name := "compareToUTF16", desc := "([B[B)I" } : Jvm.MethodName)) ∈ lw_all := lw_g (lw_at lw_m16 0 rfl) rfl
theorem q4003 : (Jvm.Cond.methodLink "java/lang/String" (594 : Nat) ({ cls := "java/lang/StringUTF16", name := "compareToLatin1", desc := "([B[B)I" } : Jvm.MethodName)) ∈ lw_all := lw_g (lw_at lw_m16 11 rfl) rfl
theorem q4029 : (Jvm.Cond.static ({ cls := "java/lang/String", name := "checkOffset", desc := "(II)V" } : Jvm.MethodName)) ∈ lw_all := lw_g (lw_at lw_m16 37 rfl) rfl
theorem q4030 : (Jvm.Cond.code ({ cls := "java/lang/String", name := "checkOffset", desc := "(II)V" } : Jvm.MethodName) prog_86_method_156_code (2 : Nat) (Option.none : Option Jvm.ClassFile.FieldType)) ∈ lw_all := lw_g (lw_at lw_m16 38 rfl) rfl
theorem q6613 : (Jvm.Cond.instanceMethod ({ cls := "java/lang/String", name := "<init>", desc := "([BB)V" } : Jvm.MethodName)) ∈ lw_all := lw_g (lw_at lw_m26 221 rfl) rfl
theorem q6614 : (Jvm.Cond.code ({ cls := "java/lang/String", name := "<init>", desc := "([BB)V" } : Jvm.MethodName) prog_86_method_151_code (3 : Nat) (Option.none : Option Jvm.ClassFile.FieldType)) ∈ lw_all := lw_g (lw_at lw_m26 222 rfl) rfl
theorem q9684 : (Jvm.Cond.castable "java/lang/String" "java/lang/Object") ∈ lw_tbl := lw_at lw_m39 172 rfl
theorem in_J20 : ∀ w ∈ wsJ200, w ∈ lw_all := lw_in wsJ200 [2928, 2930, 2932, 2934] (by decide +kernel) (by decide +kernel)
