/-! java/lang/StringUTF16 -/
set_option maxRecDepth 100000
def RJ21 : String := "java/lang/StringUTF16"
abbrev cJ21_newBytesFor : ByteArray := prog_89_method_2_code
def yJ21_newBytesFor : MethodName := ⟨RJ21, "newBytesFor", "(I)[B"⟩
def dkwJ21_newBytesFor_0 : List UInt8 := [26, 184, 0, 11, 188, 8, 176]
abbrev dktJ21_newBytesFor_0 : List UInt8 := dkwJ21_newBytesFor_0 ++ []
theorem dksJ21_newBytesFor_0 : cJ21_newBytesFor.data.toList.drop 0 = dktJ21_newBytesFor_0 := by decide +kernel
theorem dJ21_newBytesFor_0 : decode cJ21_newBytesFor 0 = .ok (.iload_n 0, 1) := dk_26 (dk_at dksJ21_newBytesFor_0 0 rfl rfl)
theorem dJ21_newBytesFor_1 : decode cJ21_newBytesFor 1 = .ok (.invokestatic 11, 3) := dk_184 0 11 (dk_at dksJ21_newBytesFor_0 1 rfl rfl)
theorem dJ21_newBytesFor_4 : decode cJ21_newBytesFor 4 = .ok (.newarray .byte, 2) := dk_188_8 (dk_at dksJ21_newBytesFor_0 4 rfl rfl)
theorem dJ21_newBytesFor_6 : decode cJ21_newBytesFor 6 = .ok (.areturn, 1) := dk_176 (dk_at dksJ21_newBytesFor_0 6 rfl rfl)
abbrev cJ21_newBytesLength : ByteArray := prog_89_method_3_code
def yJ21_newBytesLength : MethodName := ⟨RJ21, "newBytesLength", "(I)I"⟩
def dkwJ21_newBytesLength_2 : List UInt8 := [182, 0, 32, 182, 0, 37, 183, 0, 41, 191, 26, 4, 120, 172]
abbrev dktJ21_newBytesLength_2 : List UInt8 := dkwJ21_newBytesLength_2 ++ []
def dkwJ21_newBytesLength_1 : List UInt8 := [187, 0, 23, 89, 183, 0, 25, 18, 26, 182, 0, 28, 26, 182, 0, 32, 18, 35, 182, 0, 28, 18, 20]
abbrev dktJ21_newBytesLength_1 : List UInt8 := dkwJ21_newBytesLength_1 ++ dktJ21_newBytesLength_2
def dkwJ21_newBytesLength_0 : List UInt8 := [26, 156, 0, 11, 187, 0, 17, 89, 183, 0, 19, 191, 26, 18, 20, 161, 0, 40, 187, 0, 21, 89]
abbrev dktJ21_newBytesLength_0 : List UInt8 := dkwJ21_newBytesLength_0 ++ dktJ21_newBytesLength_1
theorem dksJ21_newBytesLength_0 : cJ21_newBytesLength.data.toList.drop 0 = dktJ21_newBytesLength_0 := by decide +kernel
theorem dksJ21_newBytesLength_1 : cJ21_newBytesLength.data.toList.drop 22 = dktJ21_newBytesLength_1 := dk_seg dksJ21_newBytesLength_0 22 rfl rfl
theorem dksJ21_newBytesLength_2 : cJ21_newBytesLength.data.toList.drop 45 = dktJ21_newBytesLength_2 := dk_seg dksJ21_newBytesLength_1 23 rfl rfl
theorem dJ21_newBytesLength_0 : decode cJ21_newBytesLength 0 = .ok (.iload_n 0, 1) := dk_26 (dk_at dksJ21_newBytesLength_0 0 rfl rfl)
theorem dJ21_newBytesLength_1 : decode cJ21_newBytesLength 1 = .ok (.ifCond .ge 11, 3) := dk_156 0 11 (dk_at dksJ21_newBytesLength_0 1 rfl rfl)
theorem dJ21_newBytesLength_4 : decode cJ21_newBytesLength 4 = .ok (.new 17, 3) := dk_187 0 17 (dk_at dksJ21_newBytesLength_0 4 rfl rfl)
theorem dJ21_newBytesLength_7 : decode cJ21_newBytesLength 7 = .ok (.dup, 1) := dk_89 (dk_at dksJ21_newBytesLength_0 7 rfl rfl)
theorem dJ21_newBytesLength_8 : decode cJ21_newBytesLength 8 = .ok (.invokespecial 19, 3) := dk_183 0 19 (dk_at dksJ21_newBytesLength_0 8 rfl rfl)
theorem dJ21_newBytesLength_11 : decode cJ21_newBytesLength 11 = .ok (.athrow, 1) := dk_191 (dk_at dksJ21_newBytesLength_0 11 rfl rfl)
theorem dJ21_newBytesLength_12 : decode cJ21_newBytesLength 12 = .ok (.iload_n 0, 1) := dk_26 (dk_at dksJ21_newBytesLength_0 12 rfl rfl)
theorem dJ21_newBytesLength_13 : decode cJ21_newBytesLength 13 = .ok (.ldc 20, 2) := dk_18 20 (dk_at dksJ21_newBytesLength_0 13 rfl rfl)
theorem dJ21_newBytesLength_15 : decode cJ21_newBytesLength 15 = .ok (.if_icmp .lt 40, 3) := dk_161 0 40 (dk_at dksJ21_newBytesLength_0 15 rfl rfl)
theorem dJ21_newBytesLength_18 : decode cJ21_newBytesLength 18 = .ok (.new 21, 3) := dk_187 0 21 (dk_at dksJ21_newBytesLength_0 18 rfl rfl)
theorem dJ21_newBytesLength_21 : decode cJ21_newBytesLength 21 = .ok (.dup, 1) := dk_89 (dk_at dksJ21_newBytesLength_0 21 rfl rfl)
theorem dJ21_newBytesLength_22 : decode cJ21_newBytesLength 22 = .ok (.new 23, 3) := dk_187 0 23 (dk_at dksJ21_newBytesLength_1 0 rfl rfl)
theorem dJ21_newBytesLength_25 : decode cJ21_newBytesLength 25 = .ok (.dup, 1) := dk_89 (dk_at dksJ21_newBytesLength_1 3 rfl rfl)
theorem dJ21_newBytesLength_26 : decode cJ21_newBytesLength 26 = .ok (.invokespecial 25, 3) := dk_183 0 25 (dk_at dksJ21_newBytesLength_1 4 rfl rfl)
theorem dJ21_newBytesLength_29 : decode cJ21_newBytesLength 29 = .ok (.ldc 26, 2) := dk_18 26 (dk_at dksJ21_newBytesLength_1 7 rfl rfl)
theorem dJ21_newBytesLength_31 : decode cJ21_newBytesLength 31 = .ok (.invokevirtual 28, 3) := dk_182 0 28 (dk_at dksJ21_newBytesLength_1 9 rfl rfl)
theorem dJ21_newBytesLength_34 : decode cJ21_newBytesLength 34 = .ok (.iload_n 0, 1) := dk_26 (dk_at dksJ21_newBytesLength_1 12 rfl rfl)
theorem dJ21_newBytesLength_35 : decode cJ21_newBytesLength 35 = .ok (.invokevirtual 32, 3) := dk_182 0 32 (dk_at dksJ21_newBytesLength_1 13 rfl rfl)
theorem dJ21_newBytesLength_38 : decode cJ21_newBytesLength 38 = .ok (.ldc 35, 2) := dk_18 35 (dk_at dksJ21_newBytesLength_1 16 rfl rfl)
theorem dJ21_newBytesLength_40 : decode cJ21_newBytesLength 40 = .ok (.invokevirtual 28, 3) := dk_182 0 28 (dk_at dksJ21_newBytesLength_1 18 rfl rfl)
theorem dJ21_newBytesLength_43 : decode cJ21_newBytesLength 43 = .ok (.ldc 20, 2) := dk_18 20 (dk_at dksJ21_newBytesLength_1 21 rfl rfl)
theorem dJ21_newBytesLength_45 : decode cJ21_newBytesLength 45 = .ok (.invokevirtual 32, 3) := dk_182 0 32 (dk_at dksJ21_newBytesLength_2 0 rfl rfl)
theorem dJ21_newBytesLength_48 : decode cJ21_newBytesLength 48 = .ok (.invokevirtual 37, 3) := dk_182 0 37 (dk_at dksJ21_newBytesLength_2 3 rfl rfl)
theorem dJ21_newBytesLength_51 : decode cJ21_newBytesLength 51 = .ok (.invokespecial 41, 3) := dk_183 0 41 (dk_at dksJ21_newBytesLength_2 6 rfl rfl)
theorem dJ21_newBytesLength_54 : decode cJ21_newBytesLength 54 = .ok (.athrow, 1) := dk_191 (dk_at dksJ21_newBytesLength_2 9 rfl rfl)
theorem dJ21_newBytesLength_55 : decode cJ21_newBytesLength 55 = .ok (.iload_n 0, 1) := dk_26 (dk_at dksJ21_newBytesLength_2 10 rfl rfl)
theorem dJ21_newBytesLength_56 : decode cJ21_newBytesLength 56 = .ok (.iconst 1, 1) := dk_4 (dk_at dksJ21_newBytesLength_2 11 rfl rfl)
theorem dJ21_newBytesLength_57 : decode cJ21_newBytesLength 57 = .ok (.ishl, 1) := dk_120 (dk_at dksJ21_newBytesLength_2 12 rfl rfl)
theorem dJ21_newBytesLength_58 : decode cJ21_newBytesLength 58 = .ok (.ireturn, 1) := dk_172 (dk_at dksJ21_newBytesLength_2 13 rfl rfl)
abbrev cJ21_inflate : ByteArray := prog_89_method_86_code
def yJ21_inflate : MethodName := ⟨RJ21, "inflate", "([BI[BII)V"⟩
def dkwJ21_inflate_1 : List UInt8 := [132, 1, 1, 51, 17, 0, 255, 126, 184, 0, 111, 132, 5, 1, 167, 255, 228, 177]
abbrev dktJ21_inflate_1 : List UInt8 := dkwJ21_inflate_1 ++ []
def dkwJ21_inflate_0 : List UInt8 := [29, 21, 4, 44, 184, 0, 173, 3, 54, 5, 21, 5, 21, 4, 162, 0, 27, 44, 29, 132, 3, 1, 42, 27]
abbrev dktJ21_inflate_0 : List UInt8 := dkwJ21_inflate_0 ++ dktJ21_inflate_1
theorem dksJ21_inflate_0 : cJ21_inflate.data.toList.drop 0 = dktJ21_inflate_0 := by decide +kernel
theorem dksJ21_inflate_1 : cJ21_inflate.data.toList.drop 24 = dktJ21_inflate_1 := dk_seg dksJ21_inflate_0 24 rfl rfl
theorem dJ21_inflate_0 : decode cJ21_inflate 0 = .ok (.iload_n 3, 1) := dk_29 (dk_at dksJ21_inflate_0 0 rfl rfl)
theorem dJ21_inflate_1 : decode cJ21_inflate 1 = .ok (.iload 4, 2) := dk_21 4 (dk_at dksJ21_inflate_0 1 rfl rfl)
theorem dJ21_inflate_3 : decode cJ21_inflate 3 = .ok (.aload_n 2, 1) := dk_44 (dk_at dksJ21_inflate_0 3 rfl rfl)
theorem dJ21_inflate_4 : decode cJ21_inflate 4 = .ok (.invokestatic 173, 3) := dk_184 0 173 (dk_at dksJ21_inflate_0 4 rfl rfl)
theorem dJ21_inflate_7 : decode cJ21_inflate 7 = .ok (.iconst 0, 1) := dk_3 (dk_at dksJ21_inflate_0 7 rfl rfl)
theorem dJ21_inflate_8 : decode cJ21_inflate 8 = .ok (.istore 5, 2) := dk_54 5 (dk_at dksJ21_inflate_0 8 rfl rfl)
theorem dJ21_inflate_10 : decode cJ21_inflate 10 = .ok (.iload 5, 2) := dk_21 5 (dk_at dksJ21_inflate_0 10 rfl rfl)
theorem dJ21_inflate_12 : decode cJ21_inflate 12 = .ok (.iload 4, 2) := dk_21 4 (dk_at dksJ21_inflate_0 12 rfl rfl)
theorem dJ21_inflate_14 : decode cJ21_inflate 14 = .ok (.if_icmp .ge 27, 3) := dk_162 0 27 (dk_at dksJ21_inflate_0 14 rfl rfl)
theorem dJ21_inflate_17 : decode cJ21_inflate 17 = .ok (.aload_n 2, 1) := dk_44 (dk_at dksJ21_inflate_0 17 rfl rfl)
theorem dJ21_inflate_18 : decode cJ21_inflate 18 = .ok (.iload_n 3, 1) := dk_29 (dk_at dksJ21_inflate_0 18 rfl rfl)
theorem dJ21_inflate_19 : decode cJ21_inflate 19 = .ok (.iinc 3 1, 3) := dk_132 3 1 (dk_at dksJ21_inflate_0 19 rfl rfl)
theorem dJ21_inflate_22 : decode cJ21_inflate 22 = .ok (.aload_n 0, 1) := dk_42 (dk_at dksJ21_inflate_0 22 rfl rfl)
theorem dJ21_inflate_23 : decode cJ21_inflate 23 = .ok (.iload_n 1, 1) := dk_27 (dk_at dksJ21_inflate_0 23 rfl rfl)
theorem dJ21_inflate_24 : decode cJ21_inflate 24 = .ok (.iinc 1 1, 3) := dk_132 1 1 (dk_at dksJ21_inflate_1 0 rfl rfl)
theorem dJ21_inflate_27 : decode cJ21_inflate 27 = .ok (.baload, 1) := dk_51 (dk_at dksJ21_inflate_1 3 rfl rfl)
theorem dJ21_inflate_28 : decode cJ21_inflate 28 = .ok (.sipush 255, 3) := dk_17 0 255 (dk_at dksJ21_inflate_1 4 rfl rfl)
theorem dJ21_inflate_31 : decode cJ21_inflate 31 = .ok (.iand, 1) := dk_126 (dk_at dksJ21_inflate_1 7 rfl rfl)
theorem dJ21_inflate_32 : decode cJ21_inflate 32 = .ok (.invokestatic 111, 3) := dk_184 0 111 (dk_at dksJ21_inflate_1 8 rfl rfl)
theorem dJ21_inflate_35 : decode cJ21_inflate 35 = .ok (.iinc 5 1, 3) := dk_132 5 1 (dk_at dksJ21_inflate_1 11 rfl rfl)
theorem dJ21_inflate_38 : decode cJ21_inflate 38 = .ok (.goto (-28), 3) := dk_167 255 228 (dk_at dksJ21_inflate_1 14 rfl rfl)
theorem dJ21_inflate_41 : decode cJ21_inflate 41 = .ok (.return_, 1) := dk_177 (dk_at dksJ21_inflate_1 17 rfl rfl)
abbrev cJ21_checkBoundsOffCount : ByteArray := prog_89_method_94_code
def yJ21_checkBoundsOffCount : MethodName := ⟨RJ21, "checkBoundsOffCount", "(II[B)V"⟩
def dkwJ21_checkBoundsOffCount_0 : List UInt8 := [26, 27, 44, 184, 0, 48, 184, 1, 163, 87, 177]
abbrev dktJ21_checkBoundsOffCount_0 : List UInt8 := dkwJ21_checkBoundsOffCount_0 ++ []
theorem dksJ21_checkBoundsOffCount_0 : cJ21_checkBoundsOffCount.data.toList.drop 0 = dktJ21_checkBoundsOffCount_0 := by decide +kernel
theorem dJ21_checkBoundsOffCount_0 : decode cJ21_checkBoundsOffCount 0 = .ok (.iload_n 0, 1) := dk_26 (dk_at dksJ21_checkBoundsOffCount_0 0 rfl rfl)
theorem dJ21_checkBoundsOffCount_1 : decode cJ21_checkBoundsOffCount 1 = .ok (.iload_n 1, 1) := dk_27 (dk_at dksJ21_checkBoundsOffCount_0 1 rfl rfl)
theorem dJ21_checkBoundsOffCount_2 : decode cJ21_checkBoundsOffCount 2 = .ok (.aload_n 2, 1) := dk_44 (dk_at dksJ21_checkBoundsOffCount_0 2 rfl rfl)
theorem dJ21_checkBoundsOffCount_3 : decode cJ21_checkBoundsOffCount 3 = .ok (.invokestatic 48, 3) := dk_184 0 48 (dk_at dksJ21_checkBoundsOffCount_0 3 rfl rfl)
theorem dJ21_checkBoundsOffCount_6 : decode cJ21_checkBoundsOffCount 6 = .ok (.invokestatic 419, 3) := dk_184 1 163 (dk_at dksJ21_checkBoundsOffCount_0 6 rfl rfl)
theorem dJ21_checkBoundsOffCount_9 : decode cJ21_checkBoundsOffCount 9 = .ok (.pop, 1) := dk_87 (dk_at dksJ21_checkBoundsOffCount_0 9 rfl rfl)
theorem dJ21_checkBoundsOffCount_10 : decode cJ21_checkBoundsOffCount 10 = .ok (.return_, 1) := dk_177 (dk_at dksJ21_checkBoundsOffCount_0 10 rfl rfl)
abbrev cJ21_length : ByteArray := prog_89_method_6_code
def yJ21_length : MethodName := ⟨RJ21, "length", "([B)I"⟩
def dkwJ21_length_0 : List UInt8 := [42, 190, 4, 122, 172]
abbrev dktJ21_length_0 : List UInt8 := dkwJ21_length_0 ++ []
theorem dksJ21_length_0 : cJ21_length.data.toList.drop 0 = dktJ21_length_0 := by decide +kernel
theorem dJ21_length_0 : decode cJ21_length 0 = .ok (.aload_n 0, 1) := dk_42 (dk_at dksJ21_length_0 0 rfl rfl)
theorem dJ21_length_1 : decode cJ21_length 1 = .ok (.arraylength, 1) := dk_190 (dk_at dksJ21_length_0 1 rfl rfl)
theorem dJ21_length_2 : decode cJ21_length 2 = .ok (.iconst 1, 1) := dk_4 (dk_at dksJ21_length_0 2 rfl rfl)
theorem dJ21_length_3 : decode cJ21_length 3 = .ok (.ishr, 1) := dk_122 (dk_at dksJ21_length_0 3 rfl rfl)
theorem dJ21_length_4 : decode cJ21_length 4 = .ok (.ireturn, 1) := dk_172 (dk_at dksJ21_length_0 4 rfl rfl)
abbrev cJ21_putChar : ByteArray := prog_89_method_4_code
def yJ21_putChar : MethodName := ⟨RJ21, "putChar", "([BII)V"⟩
def dkwJ21_putChar_2 : List UInt8 := [178, 0, 63, 122, 145, 84, 177]
abbrev dktJ21_putChar_2 : List UInt8 := dkwJ21_putChar_2 ++ []
def dkwJ21_putChar_1 : List UInt8 := [183, 0, 56, 191, 27, 4, 120, 60, 42, 27, 132, 1, 1, 28, 178, 0, 59, 122, 145, 84, 42, 27, 28]
abbrev dktJ21_putChar_1 : List UInt8 := dkwJ21_putChar_1 ++ dktJ21_putChar_2
def dkwJ21_putChar_0 : List UInt8 := [178, 0, 44, 154, 0, 25, 27, 155, 0, 11, 27, 42, 184, 0, 48, 161, 0, 13, 187, 0, 52, 89, 18, 54]
abbrev dktJ21_putChar_0 : List UInt8 := dkwJ21_putChar_0 ++ dktJ21_putChar_1
theorem dksJ21_putChar_0 : cJ21_putChar.data.toList.drop 0 = dktJ21_putChar_0 := by decide +kernel
theorem dksJ21_putChar_1 : cJ21_putChar.data.toList.drop 24 = dktJ21_putChar_1 := dk_seg dksJ21_putChar_0 24 rfl rfl
theorem dksJ21_putChar_2 : cJ21_putChar.data.toList.drop 47 = dktJ21_putChar_2 := dk_seg dksJ21_putChar_1 23 rfl rfl
theorem dJ21_putChar_0 : decode cJ21_putChar 0 = .ok (.getstatic 44, 3) := dk_178 0 44 (dk_at dksJ21_putChar_0 0 rfl rfl)
theorem dJ21_putChar_3 : decode cJ21_putChar 3 = .ok (.ifCond .ne 25, 3) := dk_154 0 25 (dk_at dksJ21_putChar_0 3 rfl rfl)
theorem dJ21_putChar_6 : decode cJ21_putChar 6 = .ok (.iload_n 1, 1) := dk_27 (dk_at dksJ21_putChar_0 6 rfl rfl)
theorem dJ21_putChar_7 : decode cJ21_putChar 7 = .ok (.ifCond .lt 11, 3) := dk_155 0 11 (dk_at dksJ21_putChar_0 7 rfl rfl)
theorem dJ21_putChar_10 : decode cJ21_putChar 10 = .ok (.iload_n 1, 1) := dk_27 (dk_at dksJ21_putChar_0 10 rfl rfl)
theorem dJ21_putChar_11 : decode cJ21_putChar 11 = .ok (.aload_n 0, 1) := dk_42 (dk_at dksJ21_putChar_0 11 rfl rfl)
theorem dJ21_putChar_12 : decode cJ21_putChar 12 = .ok (.invokestatic 48, 3) := dk_184 0 48 (dk_at dksJ21_putChar_0 12 rfl rfl)
theorem dJ21_putChar_15 : decode cJ21_putChar 15 = .ok (.if_icmp .lt 13, 3) := dk_161 0 13 (dk_at dksJ21_putChar_0 15 rfl rfl)
theorem dJ21_putChar_18 : decode cJ21_putChar 18 = .ok (.new 52, 3) := dk_187 0 52 (dk_at dksJ21_putChar_0 18 rfl rfl)
theorem dJ21_putChar_21 : decode cJ21_putChar 21 = .ok (.dup, 1) := dk_89 (dk_at dksJ21_putChar_0 21 rfl rfl)
theorem dJ21_putChar_22 : decode cJ21_putChar 22 = .ok (.ldc 54, 2) := dk_18 54 (dk_at dksJ21_putChar_0 22 rfl rfl)
theorem dJ21_putChar_24 : decode cJ21_putChar 24 = .ok (.invokespecial 56, 3) := dk_183 0 56 (dk_at dksJ21_putChar_1 0 rfl rfl)
theorem dJ21_putChar_27 : decode cJ21_putChar 27 = .ok (.athrow, 1) := dk_191 (dk_at dksJ21_putChar_1 3 rfl rfl)
theorem dJ21_putChar_28 : decode cJ21_putChar 28 = .ok (.iload_n 1, 1) := dk_27 (dk_at dksJ21_putChar_1 4 rfl rfl)
theorem dJ21_putChar_29 : decode cJ21_putChar 29 = .ok (.iconst 1, 1) := dk_4 (dk_at dksJ21_putChar_1 5 rfl rfl)
theorem dJ21_putChar_30 : decode cJ21_putChar 30 = .ok (.ishl, 1) := dk_120 (dk_at dksJ21_putChar_1 6 rfl rfl)
theorem dJ21_putChar_31 : decode cJ21_putChar 31 = .ok (.istore_n 1, 1) := dk_60 (dk_at dksJ21_putChar_1 7 rfl rfl)
theorem dJ21_putChar_32 : decode cJ21_putChar 32 = .ok (.aload_n 0, 1) := dk_42 (dk_at dksJ21_putChar_1 8 rfl rfl)
theorem dJ21_putChar_33 : decode cJ21_putChar 33 = .ok (.iload_n 1, 1) := dk_27 (dk_at dksJ21_putChar_1 9 rfl rfl)
theorem dJ21_putChar_34 : decode cJ21_putChar 34 = .ok (.iinc 1 1, 3) := dk_132 1 1 (dk_at dksJ21_putChar_1 10 rfl rfl)
theorem dJ21_putChar_37 : decode cJ21_putChar 37 = .ok (.iload_n 2, 1) := dk_28 (dk_at dksJ21_putChar_1 13 rfl rfl)
theorem dJ21_putChar_38 : decode cJ21_putChar 38 = .ok (.getstatic 59, 3) := dk_178 0 59 (dk_at dksJ21_putChar_1 14 rfl rfl)
theorem dJ21_putChar_41 : decode cJ21_putChar 41 = .ok (.ishr, 1) := dk_122 (dk_at dksJ21_putChar_1 17 rfl rfl)
theorem dJ21_putChar_42 : decode cJ21_putChar 42 = .ok (.i2b, 1) := dk_145 (dk_at dksJ21_putChar_1 18 rfl rfl)
theorem dJ21_putChar_43 : decode cJ21_putChar 43 = .ok (.bastore, 1) := dk_84 (dk_at dksJ21_putChar_1 19 rfl rfl)
theorem dJ21_putChar_44 : decode cJ21_putChar 44 = .ok (.aload_n 0, 1) := dk_42 (dk_at dksJ21_putChar_1 20 rfl rfl)
theorem dJ21_putChar_45 : decode cJ21_putChar 45 = .ok (.iload_n 1, 1) := dk_27 (dk_at dksJ21_putChar_1 21 rfl rfl)
theorem dJ21_putChar_46 : decode cJ21_putChar 46 = .ok (.iload_n 2, 1) := dk_28 (dk_at dksJ21_putChar_1 22 rfl rfl)
theorem dJ21_putChar_47 : decode cJ21_putChar 47 = .ok (.getstatic 63, 3) := dk_178 0 63 (dk_at dksJ21_putChar_2 0 rfl rfl)
theorem dJ21_putChar_50 : decode cJ21_putChar 50 = .ok (.ishr, 1) := dk_122 (dk_at dksJ21_putChar_2 3 rfl rfl)
theorem dJ21_putChar_51 : decode cJ21_putChar 51 = .ok (.i2b, 1) := dk_145 (dk_at dksJ21_putChar_2 4 rfl rfl)
theorem dJ21_putChar_52 : decode cJ21_putChar 52 = .ok (.bastore, 1) := dk_84 (dk_at dksJ21_putChar_2 5 rfl rfl)
theorem dJ21_putChar_53 : decode cJ21_putChar 53 = .ok (.return_, 1) := dk_177 (dk_at dksJ21_putChar_2 6 rfl rfl)
abbrev cJ21_putCharSB : ByteArray := prog_89_method_71_code
def yJ21_putCharSB : MethodName := ⟨RJ21, "putCharSB", "([BII)V"⟩
def dkwJ21_putCharSB_0 : List UInt8 := [27, 42, 184, 0, 67, 42, 27, 28, 184, 0, 111, 177]
abbrev dktJ21_putCharSB_0 : List UInt8 := dkwJ21_putCharSB_0 ++ []
theorem dksJ21_putCharSB_0 : cJ21_putCharSB.data.toList.drop 0 = dktJ21_putCharSB_0 := by decide +kernel
theorem dJ21_putCharSB_0 : decode cJ21_putCharSB 0 = .ok (.iload_n 1, 1) := dk_27 (dk_at dksJ21_putCharSB_0 0 rfl rfl)
theorem dJ21_putCharSB_1 : decode cJ21_putCharSB 1 = .ok (.aload_n 0, 1) := dk_42 (dk_at dksJ21_putCharSB_0 1 rfl rfl)
theorem dJ21_putCharSB_2 : decode cJ21_putCharSB 2 = .ok (.invokestatic 67, 3) := dk_184 0 67 (dk_at dksJ21_putCharSB_0 2 rfl rfl)
theorem dJ21_putCharSB_5 : decode cJ21_putCharSB 5 = .ok (.aload_n 0, 1) := dk_42 (dk_at dksJ21_putCharSB_0 5 rfl rfl)
theorem dJ21_putCharSB_6 : decode cJ21_putCharSB 6 = .ok (.iload_n 1, 1) := dk_27 (dk_at dksJ21_putCharSB_0 6 rfl rfl)
theorem dJ21_putCharSB_7 : decode cJ21_putCharSB 7 = .ok (.iload_n 2, 1) := dk_28 (dk_at dksJ21_putCharSB_0 7 rfl rfl)
theorem dJ21_putCharSB_8 : decode cJ21_putCharSB 8 = .ok (.invokestatic 111, 3) := dk_184 0 111 (dk_at dksJ21_putCharSB_0 8 rfl rfl)
theorem dJ21_putCharSB_11 : decode cJ21_putCharSB 11 = .ok (.return_, 1) := dk_177 (dk_at dksJ21_putCharSB_0 11 rfl rfl)
abbrev cJ21_checkIndex : ByteArray := prog_89_method_91_code
def yJ21_checkIndex : MethodName := ⟨RJ21, "checkIndex", "(I[B)V"⟩
def dkwJ21_checkIndex_0 : List UInt8 := [26, 43, 184, 0, 48, 184, 1, 158, 177]
abbrev dktJ21_checkIndex_0 : List UInt8 := dkwJ21_checkIndex_0 ++ []
theorem dksJ21_checkIndex_0 : cJ21_checkIndex.data.toList.drop 0 = dktJ21_checkIndex_0 := by decide +kernel
theorem dJ21_checkIndex_0 : decode cJ21_checkIndex 0 = .ok (.iload_n 0, 1) := dk_26 (dk_at dksJ21_checkIndex_0 0 rfl rfl)
theorem dJ21_checkIndex_1 : decode cJ21_checkIndex 1 = .ok (.aload_n 1, 1) := dk_43 (dk_at dksJ21_checkIndex_0 1 rfl rfl)
theorem dJ21_checkIndex_2 : decode cJ21_checkIndex 2 = .ok (.invokestatic 48, 3) := dk_184 0 48 (dk_at dksJ21_checkIndex_0 2 rfl rfl)
theorem dJ21_checkIndex_5 : decode cJ21_checkIndex 5 = .ok (.invokestatic 414, 3) := dk_184 1 158 (dk_at dksJ21_checkIndex_0 5 rfl rfl)
theorem dJ21_checkIndex_8 : decode cJ21_checkIndex 8 = .ok (.return_, 1) := dk_177 (dk_at dksJ21_checkIndex_0 8 rfl rfl)
abbrev cJ21_getChars : ByteArray := prog_89_method_77_code
def yJ21_getChars : MethodName := ⟨RJ21, "getChars", "(III[B)I"⟩
def dkwJ21_getChars_1 : List UInt8 := [159, 0, 11, 187, 0, 52, 89, 183, 0, 66, 191, 21, 4, 172]
abbrev dktJ21_getChars_1 : List UInt8 := dkwJ21_getChars_1 ++ []
def dkwJ21_getChars_0 : List UInt8 := [27, 28, 45, 184, 0, 96, 26, 28, 45, 184, 1, 137, 54, 4, 178, 0, 44, 154, 0, 17, 27, 21, 4]
abbrev dktJ21_getChars_0 : List UInt8 := dkwJ21_getChars_0 ++ dktJ21_getChars_1
theorem dksJ21_getChars_0 : cJ21_getChars.data.toList.drop 0 = dktJ21_getChars_0 := by decide +kernel
theorem dksJ21_getChars_1 : cJ21_getChars.data.toList.drop 23 = dktJ21_getChars_1 := dk_seg dksJ21_getChars_0 23 rfl rfl
theorem dJ21_getChars_0 : decode cJ21_getChars 0 = .ok (.iload_n 1, 1) := dk_27 (dk_at dksJ21_getChars_0 0 rfl rfl)
theorem dJ21_getChars_1 : decode cJ21_getChars 1 = .ok (.iload_n 2, 1) := dk_28 (dk_at dksJ21_getChars_0 1 rfl rfl)
theorem dJ21_getChars_2 : decode cJ21_getChars 2 = .ok (.aload_n 3, 1) := dk_45 (dk_at dksJ21_getChars_0 2 rfl rfl)
theorem dJ21_getChars_3 : decode cJ21_getChars 3 = .ok (.invokestatic 96, 3) := dk_184 0 96 (dk_at dksJ21_getChars_0 3 rfl rfl)
theorem dJ21_getChars_6 : decode cJ21_getChars 6 = .ok (.iload_n 0, 1) := dk_26 (dk_at dksJ21_getChars_0 6 rfl rfl)
theorem dJ21_getChars_7 : decode cJ21_getChars 7 = .ok (.iload_n 2, 1) := dk_28 (dk_at dksJ21_getChars_0 7 rfl rfl)
theorem dJ21_getChars_8 : decode cJ21_getChars 8 = .ok (.aload_n 3, 1) := dk_45 (dk_at dksJ21_getChars_0 8 rfl rfl)
theorem dJ21_getChars_9 : decode cJ21_getChars 9 = .ok (.invokestatic 393, 3) := dk_184 1 137 (dk_at dksJ21_getChars_0 9 rfl rfl)
theorem dJ21_getChars_12 : decode cJ21_getChars 12 = .ok (.istore 4, 2) := dk_54 4 (dk_at dksJ21_getChars_0 12 rfl rfl)
theorem dJ21_getChars_14 : decode cJ21_getChars 14 = .ok (.getstatic 44, 3) := dk_178 0 44 (dk_at dksJ21_getChars_0 14 rfl rfl)
theorem dJ21_getChars_17 : decode cJ21_getChars 17 = .ok (.ifCond .ne 17, 3) := dk_154 0 17 (dk_at dksJ21_getChars_0 17 rfl rfl)
theorem dJ21_getChars_20 : decode cJ21_getChars 20 = .ok (.iload_n 1, 1) := dk_27 (dk_at dksJ21_getChars_0 20 rfl rfl)
theorem dJ21_getChars_21 : decode cJ21_getChars 21 = .ok (.iload 4, 2) := dk_21 4 (dk_at dksJ21_getChars_0 21 rfl rfl)
theorem dJ21_getChars_23 : decode cJ21_getChars 23 = .ok (.if_icmp .eq 11, 3) := dk_159 0 11 (dk_at dksJ21_getChars_1 0 rfl rfl)
theorem dJ21_getChars_26 : decode cJ21_getChars 26 = .ok (.new 52, 3) := dk_187 0 52 (dk_at dksJ21_getChars_1 3 rfl rfl)
theorem dJ21_getChars_29 : decode cJ21_getChars 29 = .ok (.dup, 1) := dk_89 (dk_at dksJ21_getChars_1 6 rfl rfl)
theorem dJ21_getChars_30 : decode cJ21_getChars 30 = .ok (.invokespecial 66, 3) := dk_183 0 66 (dk_at dksJ21_getChars_1 7 rfl rfl)
theorem dJ21_getChars_33 : decode cJ21_getChars 33 = .ok (.athrow, 1) := dk_191 (dk_at dksJ21_getChars_1 10 rfl rfl)
theorem dJ21_getChars_34 : decode cJ21_getChars 34 = .ok (.iload 4, 2) := dk_21 4 (dk_at dksJ21_getChars_1 11 rfl rfl)
theorem dJ21_getChars_36 : decode cJ21_getChars 36 = .ok (.ireturn, 1) := dk_172 (dk_at dksJ21_getChars_1 13 rfl rfl)
abbrev cJ21_checkBoundsBeginEnd : ByteArray := prog_89_method_93_code
def yJ21_checkBoundsBeginEnd : MethodName := ⟨RJ21, "checkBoundsBeginEnd", "(II[B)V"⟩
def dkwJ21_checkBoundsBeginEnd_0 : List UInt8 := [26, 27, 44, 184, 0, 48, 184, 0, 241, 177]
abbrev dktJ21_checkBoundsBeginEnd_0 : List UInt8 := dkwJ21_checkBoundsBeginEnd_0 ++ []
theorem dksJ21_checkBoundsBeginEnd_0 : cJ21_checkBoundsBeginEnd.data.toList.drop 0 = dktJ21_checkBoundsBeginEnd_0 := by decide +kernel
theorem dJ21_checkBoundsBeginEnd_0 : decode cJ21_checkBoundsBeginEnd 0 = .ok (.iload_n 0, 1) := dk_26 (dk_at dksJ21_checkBoundsBeginEnd_0 0 rfl rfl)
theorem dJ21_checkBoundsBeginEnd_1 : decode cJ21_checkBoundsBeginEnd 1 = .ok (.iload_n 1, 1) := dk_27 (dk_at dksJ21_checkBoundsBeginEnd_0 1 rfl rfl)
theorem dJ21_checkBoundsBeginEnd_2 : decode cJ21_checkBoundsBeginEnd 2 = .ok (.aload_n 2, 1) := dk_44 (dk_at dksJ21_checkBoundsBeginEnd_0 2 rfl rfl)
theorem dJ21_checkBoundsBeginEnd_3 : decode cJ21_checkBoundsBeginEnd 3 = .ok (.invokestatic 48, 3) := dk_184 0 48 (dk_at dksJ21_checkBoundsBeginEnd_0 3 rfl rfl)
theorem dJ21_checkBoundsBeginEnd_6 : decode cJ21_checkBoundsBeginEnd 6 = .ok (.invokestatic 241, 3) := dk_184 0 241 (dk_at dksJ21_checkBoundsBeginEnd_0 6 rfl rfl)
theorem dJ21_checkBoundsBeginEnd_9 : decode cJ21_checkBoundsBeginEnd 9 = .ok (.return_, 1) := dk_177 (dk_at dksJ21_checkBoundsBeginEnd_0 9 rfl rfl)
abbrev cJ21_getChars_2 : ByteArray := prog_89_method_89_code
def yJ21_getChars_2 : MethodName := ⟨RJ21, "getChars", "(II[B)I"⟩
def dkwJ21_getChars_2_5 : List UInt8 := [132, 5, 255, 21, 5, 16, 45, 184, 0, 111, 21, 5, 172]
abbrev dktJ21_getChars_2_5 : List UInt8 := dkwJ21_getChars_2_5 ++ []
def dkwJ21_getChars_2_4 : List UInt8 := [162, 0, 18, 44, 132, 5, 255, 21, 5, 178, 1, 151, 26, 116, 51, 184, 0, 111, 21, 6, 153, 0, 14, 44]
abbrev dktJ21_getChars_2_4 : List UInt8 := dkwJ21_getChars_2_4 ++ dktJ21_getChars_2_5
def dkwJ21_getChars_2_3 : List UInt8 := [184, 0, 111, 167, 255, 205, 44, 132, 5, 255, 21, 5, 178, 1, 147, 26, 116, 51, 184, 0, 111, 26, 16, 247]
abbrev dktJ21_getChars_2_3 : List UInt8 := dkwJ21_getChars_2_3 ++ dktJ21_getChars_2_4
def dkwJ21_getChars_2_2 : List UInt8 := [21, 5, 178, 1, 147, 21, 4, 51, 184, 0, 111, 44, 132, 5, 255, 21, 5, 178, 1, 151, 21, 4, 51]
abbrev dktJ21_getChars_2_2 : List UInt8 := dkwJ21_getChars_2_2 ++ dktJ21_getChars_2_3
def dkwJ21_getChars_2_1 : List UInt8 := [16, 156, 163, 0, 51, 26, 16, 100, 108, 62, 29, 16, 100, 104, 26, 100, 54, 4, 29, 59, 44, 132, 5, 255]
abbrev dktJ21_getChars_2_1 : List UInt8 := dkwJ21_getChars_2_1 ++ dktJ21_getChars_2_2
def dkwJ21_getChars_2_0 : List UInt8 := [27, 54, 5, 26, 156, 0, 7, 4, 167, 0, 4, 3, 54, 6, 21, 6, 154, 0, 6, 26, 116, 59, 26]
abbrev dktJ21_getChars_2_0 : List UInt8 := dkwJ21_getChars_2_0 ++ dktJ21_getChars_2_1
theorem dksJ21_getChars_2_0 : cJ21_getChars_2.data.toList.drop 0 = dktJ21_getChars_2_0 := by decide +kernel
theorem dksJ21_getChars_2_1 : cJ21_getChars_2.data.toList.drop 23 = dktJ21_getChars_2_1 := dk_seg dksJ21_getChars_2_0 23 rfl rfl
theorem dksJ21_getChars_2_2 : cJ21_getChars_2.data.toList.drop 47 = dktJ21_getChars_2_2 := dk_seg dksJ21_getChars_2_1 24 rfl rfl
theorem dksJ21_getChars_2_3 : cJ21_getChars_2.data.toList.drop 70 = dktJ21_getChars_2_3 := dk_seg dksJ21_getChars_2_2 23 rfl rfl
theorem dksJ21_getChars_2_4 : cJ21_getChars_2.data.toList.drop 94 = dktJ21_getChars_2_4 := dk_seg dksJ21_getChars_2_3 24 rfl rfl
theorem dksJ21_getChars_2_5 : cJ21_getChars_2.data.toList.drop 118 = dktJ21_getChars_2_5 := dk_seg dksJ21_getChars_2_4 24 rfl rfl
theorem dJ21_getChars_2_0 : decode cJ21_getChars_2 0 = .ok (.iload_n 1, 1) := dk_27 (dk_at dksJ21_getChars_2_0 0 rfl rfl)
theorem dJ21_getChars_2_1 : decode cJ21_getChars_2 1 = .ok (.istore 5, 2) := dk_54 5 (dk_at dksJ21_getChars_2_0 1 rfl rfl)
theorem dJ21_getChars_2_3 : decode cJ21_getChars_2 3 = .ok (.iload_n 0, 1) := dk_26 (dk_at dksJ21_getChars_2_0 3 rfl rfl)
theorem dJ21_getChars_2_4 : decode cJ21_getChars_2 4 = .ok (.ifCond .ge 7, 3) := dk_156 0 7 (dk_at dksJ21_getChars_2_0 4 rfl rfl)
theorem dJ21_getChars_2_7 : decode cJ21_getChars_2 7 = .ok (.iconst 1, 1) := dk_4 (dk_at dksJ21_getChars_2_0 7 rfl rfl)
theorem dJ21_getChars_2_8 : decode cJ21_getChars_2 8 = .ok (.goto 4, 3) := dk_167 0 4 (dk_at dksJ21_getChars_2_0 8 rfl rfl)
theorem dJ21_getChars_2_11 : decode cJ21_getChars_2 11 = .ok (.iconst 0, 1) := dk_3 (dk_at dksJ21_getChars_2_0 11 rfl rfl)
theorem dJ21_getChars_2_12 : decode cJ21_getChars_2 12 = .ok (.istore 6, 2) := dk_54 6 (dk_at dksJ21_getChars_2_0 12 rfl rfl)
theorem dJ21_getChars_2_14 : decode cJ21_getChars_2 14 = .ok (.iload 6, 2) := dk_21 6 (dk_at dksJ21_getChars_2_0 14 rfl rfl)
theorem dJ21_getChars_2_16 : decode cJ21_getChars_2 16 = .ok (.ifCond .ne 6, 3) := dk_154 0 6 (dk_at dksJ21_getChars_2_0 16 rfl rfl)
theorem dJ21_getChars_2_19 : decode cJ21_getChars_2 19 = .ok (.iload_n 0, 1) := dk_26 (dk_at dksJ21_getChars_2_0 19 rfl rfl)
theorem dJ21_getChars_2_20 : decode cJ21_getChars_2 20 = .ok (.ineg, 1) := dk_116 (dk_at dksJ21_getChars_2_0 20 rfl rfl)
theorem dJ21_getChars_2_21 : decode cJ21_getChars_2 21 = .ok (.istore_n 0, 1) := dk_59 (dk_at dksJ21_getChars_2_0 21 rfl rfl)
theorem dJ21_getChars_2_22 : decode cJ21_getChars_2 22 = .ok (.iload_n 0, 1) := dk_26 (dk_at dksJ21_getChars_2_0 22 rfl rfl)
theorem dJ21_getChars_2_23 : decode cJ21_getChars_2 23 = .ok (.bipush (-100), 2) := dk_16 156 (dk_at dksJ21_getChars_2_1 0 rfl rfl)
theorem dJ21_getChars_2_25 : decode cJ21_getChars_2 25 = .ok (.if_icmp .gt 51, 3) := dk_163 0 51 (dk_at dksJ21_getChars_2_1 2 rfl rfl)
theorem dJ21_getChars_2_28 : decode cJ21_getChars_2 28 = .ok (.iload_n 0, 1) := dk_26 (dk_at dksJ21_getChars_2_1 5 rfl rfl)
theorem dJ21_getChars_2_29 : decode cJ21_getChars_2 29 = .ok (.bipush 100, 2) := dk_16 100 (dk_at dksJ21_getChars_2_1 6 rfl rfl)
theorem dJ21_getChars_2_31 : decode cJ21_getChars_2 31 = .ok (.idiv, 1) := dk_108 (dk_at dksJ21_getChars_2_1 8 rfl rfl)
theorem dJ21_getChars_2_32 : decode cJ21_getChars_2 32 = .ok (.istore_n 3, 1) := dk_62 (dk_at dksJ21_getChars_2_1 9 rfl rfl)
theorem dJ21_getChars_2_33 : decode cJ21_getChars_2 33 = .ok (.iload_n 3, 1) := dk_29 (dk_at dksJ21_getChars_2_1 10 rfl rfl)
theorem dJ21_getChars_2_34 : decode cJ21_getChars_2 34 = .ok (.bipush 100, 2) := dk_16 100 (dk_at dksJ21_getChars_2_1 11 rfl rfl)
theorem dJ21_getChars_2_36 : decode cJ21_getChars_2 36 = .ok (.imul, 1) := dk_104 (dk_at dksJ21_getChars_2_1 13 rfl rfl)
theorem dJ21_getChars_2_37 : decode cJ21_getChars_2 37 = .ok (.iload_n 0, 1) := dk_26 (dk_at dksJ21_getChars_2_1 14 rfl rfl)
theorem dJ21_getChars_2_38 : decode cJ21_getChars_2 38 = .ok (.isub, 1) := dk_100 (dk_at dksJ21_getChars_2_1 15 rfl rfl)
theorem dJ21_getChars_2_39 : decode cJ21_getChars_2 39 = .ok (.istore 4, 2) := dk_54 4 (dk_at dksJ21_getChars_2_1 16 rfl rfl)
theorem dJ21_getChars_2_41 : decode cJ21_getChars_2 41 = .ok (.iload_n 3, 1) := dk_29 (dk_at dksJ21_getChars_2_1 18 rfl rfl)
theorem dJ21_getChars_2_42 : decode cJ21_getChars_2 42 = .ok (.istore_n 0, 1) := dk_59 (dk_at dksJ21_getChars_2_1 19 rfl rfl)
theorem dJ21_getChars_2_43 : decode cJ21_getChars_2 43 = .ok (.aload_n 2, 1) := dk_44 (dk_at dksJ21_getChars_2_1 20 rfl rfl)
theorem dJ21_getChars_2_44 : decode cJ21_getChars_2 44 = .ok (.iinc 5 (-1), 3) := dk_132 5 255 (dk_at dksJ21_getChars_2_1 21 rfl rfl)
theorem dJ21_getChars_2_47 : decode cJ21_getChars_2 47 = .ok (.iload 5, 2) := dk_21 5 (dk_at dksJ21_getChars_2_2 0 rfl rfl)
theorem dJ21_getChars_2_49 : decode cJ21_getChars_2 49 = .ok (.getstatic 403, 3) := dk_178 1 147 (dk_at dksJ21_getChars_2_2 2 rfl rfl)
theorem dJ21_getChars_2_52 : decode cJ21_getChars_2 52 = .ok (.iload 4, 2) := dk_21 4 (dk_at dksJ21_getChars_2_2 5 rfl rfl)
theorem dJ21_getChars_2_54 : decode cJ21_getChars_2 54 = .ok (.baload, 1) := dk_51 (dk_at dksJ21_getChars_2_2 7 rfl rfl)
theorem dJ21_getChars_2_55 : decode cJ21_getChars_2 55 = .ok (.invokestatic 111, 3) := dk_184 0 111 (dk_at dksJ21_getChars_2_2 8 rfl rfl)
theorem dJ21_getChars_2_58 : decode cJ21_getChars_2 58 = .ok (.aload_n 2, 1) := dk_44 (dk_at dksJ21_getChars_2_2 11 rfl rfl)
theorem dJ21_getChars_2_59 : decode cJ21_getChars_2 59 = .ok (.iinc 5 (-1), 3) := dk_132 5 255 (dk_at dksJ21_getChars_2_2 12 rfl rfl)
theorem dJ21_getChars_2_62 : decode cJ21_getChars_2 62 = .ok (.iload 5, 2) := dk_21 5 (dk_at dksJ21_getChars_2_2 15 rfl rfl)
theorem dJ21_getChars_2_64 : decode cJ21_getChars_2 64 = .ok (.getstatic 407, 3) := dk_178 1 151 (dk_at dksJ21_getChars_2_2 17 rfl rfl)
theorem dJ21_getChars_2_67 : decode cJ21_getChars_2 67 = .ok (.iload 4, 2) := dk_21 4 (dk_at dksJ21_getChars_2_2 20 rfl rfl)
theorem dJ21_getChars_2_69 : decode cJ21_getChars_2 69 = .ok (.baload, 1) := dk_51 (dk_at dksJ21_getChars_2_2 22 rfl rfl)
theorem dJ21_getChars_2_70 : decode cJ21_getChars_2 70 = .ok (.invokestatic 111, 3) := dk_184 0 111 (dk_at dksJ21_getChars_2_3 0 rfl rfl)
theorem dJ21_getChars_2_73 : decode cJ21_getChars_2 73 = .ok (.goto (-51), 3) := dk_167 255 205 (dk_at dksJ21_getChars_2_3 3 rfl rfl)
theorem dJ21_getChars_2_76 : decode cJ21_getChars_2 76 = .ok (.aload_n 2, 1) := dk_44 (dk_at dksJ21_getChars_2_3 6 rfl rfl)
theorem dJ21_getChars_2_77 : decode cJ21_getChars_2 77 = .ok (.iinc 5 (-1), 3) := dk_132 5 255 (dk_at dksJ21_getChars_2_3 7 rfl rfl)
theorem dJ21_getChars_2_80 : decode cJ21_getChars_2 80 = .ok (.iload 5, 2) := dk_21 5 (dk_at dksJ21_getChars_2_3 10 rfl rfl)
theorem dJ21_getChars_2_82 : decode cJ21_getChars_2 82 = .ok (.getstatic 403, 3) := dk_178 1 147 (dk_at dksJ21_getChars_2_3 12 rfl rfl)
theorem dJ21_getChars_2_85 : decode cJ21_getChars_2 85 = .ok (.iload_n 0, 1) := dk_26 (dk_at dksJ21_getChars_2_3 15 rfl rfl)
theorem dJ21_getChars_2_86 : decode cJ21_getChars_2 86 = .ok (.ineg, 1) := dk_116 (dk_at dksJ21_getChars_2_3 16 rfl rfl)
theorem dJ21_getChars_2_87 : decode cJ21_getChars_2 87 = .ok (.baload, 1) := dk_51 (dk_at dksJ21_getChars_2_3 17 rfl rfl)
theorem dJ21_getChars_2_88 : decode cJ21_getChars_2 88 = .ok (.invokestatic 111, 3) := dk_184 0 111 (dk_at dksJ21_getChars_2_3 18 rfl rfl)
theorem dJ21_getChars_2_91 : decode cJ21_getChars_2 91 = .ok (.iload_n 0, 1) := dk_26 (dk_at dksJ21_getChars_2_3 21 rfl rfl)
theorem dJ21_getChars_2_92 : decode cJ21_getChars_2 92 = .ok (.bipush (-9), 2) := dk_16 247 (dk_at dksJ21_getChars_2_3 22 rfl rfl)
theorem dJ21_getChars_2_94 : decode cJ21_getChars_2 94 = .ok (.if_icmp .ge 18, 3) := dk_162 0 18 (dk_at dksJ21_getChars_2_4 0 rfl rfl)
theorem dJ21_getChars_2_97 : decode cJ21_getChars_2 97 = .ok (.aload_n 2, 1) := dk_44 (dk_at dksJ21_getChars_2_4 3 rfl rfl)
theorem dJ21_getChars_2_98 : decode cJ21_getChars_2 98 = .ok (.iinc 5 (-1), 3) := dk_132 5 255 (dk_at dksJ21_getChars_2_4 4 rfl rfl)
theorem dJ21_getChars_2_101 : decode cJ21_getChars_2 101 = .ok (.iload 5, 2) := dk_21 5 (dk_at dksJ21_getChars_2_4 7 rfl rfl)
theorem dJ21_getChars_2_103 : decode cJ21_getChars_2 103 = .ok (.getstatic 407, 3) := dk_178 1 151 (dk_at dksJ21_getChars_2_4 9 rfl rfl)
theorem dJ21_getChars_2_106 : decode cJ21_getChars_2 106 = .ok (.iload_n 0, 1) := dk_26 (dk_at dksJ21_getChars_2_4 12 rfl rfl)
theorem dJ21_getChars_2_107 : decode cJ21_getChars_2 107 = .ok (.ineg, 1) := dk_116 (dk_at dksJ21_getChars_2_4 13 rfl rfl)
theorem dJ21_getChars_2_108 : decode cJ21_getChars_2 108 = .ok (.baload, 1) := dk_51 (dk_at dksJ21_getChars_2_4 14 rfl rfl)
theorem dJ21_getChars_2_109 : decode cJ21_getChars_2 109 = .ok (.invokestatic 111, 3) := dk_184 0 111 (dk_at dksJ21_getChars_2_4 15 rfl rfl)
theorem dJ21_getChars_2_112 : decode cJ21_getChars_2 112 = .ok (.iload 6, 2) := dk_21 6 (dk_at dksJ21_getChars_2_4 18 rfl rfl)
theorem dJ21_getChars_2_114 : decode cJ21_getChars_2 114 = .ok (.ifCond .eq 14, 3) := dk_153 0 14 (dk_at dksJ21_getChars_2_4 20 rfl rfl)
theorem dJ21_getChars_2_117 : decode cJ21_getChars_2 117 = .ok (.aload_n 2, 1) := dk_44 (dk_at dksJ21_getChars_2_4 23 rfl rfl)
theorem dJ21_getChars_2_118 : decode cJ21_getChars_2 118 = .ok (.iinc 5 (-1), 3) := dk_132 5 255 (dk_at dksJ21_getChars_2_5 0 rfl rfl)
theorem dJ21_getChars_2_121 : decode cJ21_getChars_2 121 = .ok (.iload 5, 2) := dk_21 5 (dk_at dksJ21_getChars_2_5 3 rfl rfl)
theorem dJ21_getChars_2_123 : decode cJ21_getChars_2 123 = .ok (.bipush 45, 2) := dk_16 45 (dk_at dksJ21_getChars_2_5 5 rfl rfl)
theorem dJ21_getChars_2_125 : decode cJ21_getChars_2 125 = .ok (.invokestatic 111, 3) := dk_184 0 111 (dk_at dksJ21_getChars_2_5 7 rfl rfl)
theorem dJ21_getChars_2_128 : decode cJ21_getChars_2 128 = .ok (.iload 5, 2) := dk_21 5 (dk_at dksJ21_getChars_2_5 10 rfl rfl)
theorem dJ21_getChars_2_130 : decode cJ21_getChars_2 130 = .ok (.ireturn, 1) := dk_172 (dk_at dksJ21_getChars_2_5 12 rfl rfl)
abbrev cJ21_putCharsAt : ByteArray := prog_89_method_81_code
def yJ21_putCharsAt : MethodName := ⟨RJ21, "putCharsAt", "([BICCCC)I"⟩
def dkwJ21_putCharsAt_3 : List UInt8 := [21, 6, 172]
abbrev dktJ21_putCharsAt_3 : List UInt8 := dkwJ21_putCharsAt_3 ++ []
def dkwJ21_putCharsAt_2 : List UInt8 := [184, 0, 111, 178, 0, 44, 154, 0, 17, 27, 21, 6, 159, 0, 11, 187, 0, 52, 89, 183, 0, 66, 191]
abbrev dktJ21_putCharsAt_2 : List UInt8 := dkwJ21_putCharsAt_2 ++ dktJ21_putCharsAt_3
def dkwJ21_putCharsAt_1 : List UInt8 := [132, 1, 1, 29, 184, 0, 111, 42, 27, 132, 1, 1, 21, 4, 184, 0, 111, 42, 27, 132, 1, 1, 21, 5]
abbrev dktJ21_putCharsAt_1 : List UInt8 := dkwJ21_putCharsAt_1 ++ dktJ21_putCharsAt_2
def dkwJ21_putCharsAt_0 : List UInt8 := [27, 7, 96, 54, 6, 27, 21, 6, 42, 184, 0, 96, 42, 27, 132, 1, 1, 28, 184, 0, 111, 42, 27]
abbrev dktJ21_putCharsAt_0 : List UInt8 := dkwJ21_putCharsAt_0 ++ dktJ21_putCharsAt_1
theorem dksJ21_putCharsAt_0 : cJ21_putCharsAt.data.toList.drop 0 = dktJ21_putCharsAt_0 := by decide +kernel
theorem dksJ21_putCharsAt_1 : cJ21_putCharsAt.data.toList.drop 23 = dktJ21_putCharsAt_1 := dk_seg dksJ21_putCharsAt_0 23 rfl rfl
theorem dksJ21_putCharsAt_2 : cJ21_putCharsAt.data.toList.drop 47 = dktJ21_putCharsAt_2 := dk_seg dksJ21_putCharsAt_1 24 rfl rfl
theorem dksJ21_putCharsAt_3 : cJ21_putCharsAt.data.toList.drop 70 = dktJ21_putCharsAt_3 := dk_seg dksJ21_putCharsAt_2 23 rfl rfl
theorem dJ21_putCharsAt_0 : decode cJ21_putCharsAt 0 = .ok (.iload_n 1, 1) := dk_27 (dk_at dksJ21_putCharsAt_0 0 rfl rfl)
theorem dJ21_putCharsAt_1 : decode cJ21_putCharsAt 1 = .ok (.iconst 4, 1) := dk_7 (dk_at dksJ21_putCharsAt_0 1 rfl rfl)
theorem dJ21_putCharsAt_2 : decode cJ21_putCharsAt 2 = .ok (.iadd, 1) := dk_96 (dk_at dksJ21_putCharsAt_0 2 rfl rfl)
theorem dJ21_putCharsAt_3 : decode cJ21_putCharsAt 3 = .ok (.istore 6, 2) := dk_54 6 (dk_at dksJ21_putCharsAt_0 3 rfl rfl)
theorem dJ21_putCharsAt_5 : decode cJ21_putCharsAt 5 = .ok (.iload_n 1, 1) := dk_27 (dk_at dksJ21_putCharsAt_0 5 rfl rfl)
theorem dJ21_putCharsAt_6 : decode cJ21_putCharsAt 6 = .ok (.iload 6, 2) := dk_21 6 (dk_at dksJ21_putCharsAt_0 6 rfl rfl)
theorem dJ21_putCharsAt_8 : decode cJ21_putCharsAt 8 = .ok (.aload_n 0, 1) := dk_42 (dk_at dksJ21_putCharsAt_0 8 rfl rfl)
theorem dJ21_putCharsAt_9 : decode cJ21_putCharsAt 9 = .ok (.invokestatic 96, 3) := dk_184 0 96 (dk_at dksJ21_putCharsAt_0 9 rfl rfl)
theorem dJ21_putCharsAt_12 : decode cJ21_putCharsAt 12 = .ok (.aload_n 0, 1) := dk_42 (dk_at dksJ21_putCharsAt_0 12 rfl rfl)
theorem dJ21_putCharsAt_13 : decode cJ21_putCharsAt 13 = .ok (.iload_n 1, 1) := dk_27 (dk_at dksJ21_putCharsAt_0 13 rfl rfl)
theorem dJ21_putCharsAt_14 : decode cJ21_putCharsAt 14 = .ok (.iinc 1 1, 3) := dk_132 1 1 (dk_at dksJ21_putCharsAt_0 14 rfl rfl)
theorem dJ21_putCharsAt_17 : decode cJ21_putCharsAt 17 = .ok (.iload_n 2, 1) := dk_28 (dk_at dksJ21_putCharsAt_0 17 rfl rfl)
theorem dJ21_putCharsAt_18 : decode cJ21_putCharsAt 18 = .ok (.invokestatic 111, 3) := dk_184 0 111 (dk_at dksJ21_putCharsAt_0 18 rfl rfl)
theorem dJ21_putCharsAt_21 : decode cJ21_putCharsAt 21 = .ok (.aload_n 0, 1) := dk_42 (dk_at dksJ21_putCharsAt_0 21 rfl rfl)
theorem dJ21_putCharsAt_22 : decode cJ21_putCharsAt 22 = .ok (.iload_n 1, 1) := dk_27 (dk_at dksJ21_putCharsAt_0 22 rfl rfl)
theorem dJ21_putCharsAt_23 : decode cJ21_putCharsAt 23 = .ok (.iinc 1 1, 3) := dk_132 1 1 (dk_at dksJ21_putCharsAt_1 0 rfl rfl)
theorem dJ21_putCharsAt_26 : decode cJ21_putCharsAt 26 = .ok (.iload_n 3, 1) := dk_29 (dk_at dksJ21_putCharsAt_1 3 rfl rfl)
theorem dJ21_putCharsAt_27 : decode cJ21_putCharsAt 27 = .ok (.invokestatic 111, 3) := dk_184 0 111 (dk_at dksJ21_putCharsAt_1 4 rfl rfl)
theorem dJ21_putCharsAt_30 : decode cJ21_putCharsAt 30 = .ok (.aload_n 0, 1) := dk_42 (dk_at dksJ21_putCharsAt_1 7 rfl rfl)
theorem dJ21_putCharsAt_31 : decode cJ21_putCharsAt 31 = .ok (.iload_n 1, 1) := dk_27 (dk_at dksJ21_putCharsAt_1 8 rfl rfl)
theorem dJ21_putCharsAt_32 : decode cJ21_putCharsAt 32 = .ok (.iinc 1 1, 3) := dk_132 1 1 (dk_at dksJ21_putCharsAt_1 9 rfl rfl)
theorem dJ21_putCharsAt_35 : decode cJ21_putCharsAt 35 = .ok (.iload 4, 2) := dk_21 4 (dk_at dksJ21_putCharsAt_1 12 rfl rfl)
theorem dJ21_putCharsAt_37 : decode cJ21_putCharsAt 37 = .ok (.invokestatic 111, 3) := dk_184 0 111 (dk_at dksJ21_putCharsAt_1 14 rfl rfl)
theorem dJ21_putCharsAt_40 : decode cJ21_putCharsAt 40 = .ok (.aload_n 0, 1) := dk_42 (dk_at dksJ21_putCharsAt_1 17 rfl rfl)
theorem dJ21_putCharsAt_41 : decode cJ21_putCharsAt 41 = .ok (.iload_n 1, 1) := dk_27 (dk_at dksJ21_putCharsAt_1 18 rfl rfl)
theorem dJ21_putCharsAt_42 : decode cJ21_putCharsAt 42 = .ok (.iinc 1 1, 3) := dk_132 1 1 (dk_at dksJ21_putCharsAt_1 19 rfl rfl)
theorem dJ21_putCharsAt_45 : decode cJ21_putCharsAt 45 = .ok (.iload 5, 2) := dk_21 5 (dk_at dksJ21_putCharsAt_1 22 rfl rfl)
theorem dJ21_putCharsAt_47 : decode cJ21_putCharsAt 47 = .ok (.invokestatic 111, 3) := dk_184 0 111 (dk_at dksJ21_putCharsAt_2 0 rfl rfl)
theorem dJ21_putCharsAt_50 : decode cJ21_putCharsAt 50 = .ok (.getstatic 44, 3) := dk_178 0 44 (dk_at dksJ21_putCharsAt_2 3 rfl rfl)
theorem dJ21_putCharsAt_53 : decode cJ21_putCharsAt 53 = .ok (.ifCond .ne 17, 3) := dk_154 0 17 (dk_at dksJ21_putCharsAt_2 6 rfl rfl)
theorem dJ21_putCharsAt_56 : decode cJ21_putCharsAt 56 = .ok (.iload_n 1, 1) := dk_27 (dk_at dksJ21_putCharsAt_2 9 rfl rfl)
theorem dJ21_putCharsAt_57 : decode cJ21_putCharsAt 57 = .ok (.iload 6, 2) := dk_21 6 (dk_at dksJ21_putCharsAt_2 10 rfl rfl)
theorem dJ21_putCharsAt_59 : decode cJ21_putCharsAt 59 = .ok (.if_icmp .eq 11, 3) := dk_159 0 11 (dk_at dksJ21_putCharsAt_2 12 rfl rfl)
theorem dJ21_putCharsAt_62 : decode cJ21_putCharsAt 62 = .ok (.new 52, 3) := dk_187 0 52 (dk_at dksJ21_putCharsAt_2 15 rfl rfl)
theorem dJ21_putCharsAt_65 : decode cJ21_putCharsAt 65 = .ok (.dup, 1) := dk_89 (dk_at dksJ21_putCharsAt_2 18 rfl rfl)
theorem dJ21_putCharsAt_66 : decode cJ21_putCharsAt 66 = .ok (.invokespecial 66, 3) := dk_183 0 66 (dk_at dksJ21_putCharsAt_2 19 rfl rfl)
theorem dJ21_putCharsAt_69 : decode cJ21_putCharsAt 69 = .ok (.athrow, 1) := dk_191 (dk_at dksJ21_putCharsAt_2 22 rfl rfl)
theorem dJ21_putCharsAt_70 : decode cJ21_putCharsAt 70 = .ok (.iload 6, 2) := dk_21 6 (dk_at dksJ21_putCharsAt_3 0 rfl rfl)
theorem dJ21_putCharsAt_72 : decode cJ21_putCharsAt 72 = .ok (.ireturn, 1) := dk_172 (dk_at dksJ21_putCharsAt_3 2 rfl rfl)
abbrev cJ21_compress : ByteArray := prog_89_method_17_code
def yJ21_compress : MethodName := ⟨RJ21, "compress", "([BII)[B"⟩
def dkwJ21_compress_2 : List UInt8 := [25, 5, 3, 45, 3, 28, 184, 0, 123, 28, 159, 0, 6, 25, 5, 176, 45, 176]
abbrev dktJ21_compress_2 : List UInt8 := dkwJ21_compress_2 ++ []
def dkwJ21_compress_1 : List UInt8 := [27, 28, 96, 184, 0, 11, 184, 0, 126, 58, 5, 25, 5, 21, 4, 184, 0, 71, 17, 0, 255, 163, 0, 16]
abbrev dktJ21_compress_1 : List UInt8 := dkwJ21_compress_1 ++ dktJ21_compress_2
def dkwJ21_compress_0 : List UInt8 := [28, 188, 8, 78, 42, 27, 45, 3, 28, 184, 0, 123, 54, 4, 21, 4, 28, 159, 0, 47, 42, 27, 4, 120]
abbrev dktJ21_compress_0 : List UInt8 := dkwJ21_compress_0 ++ dktJ21_compress_1
theorem dksJ21_compress_0 : cJ21_compress.data.toList.drop 0 = dktJ21_compress_0 := by decide +kernel
theorem dksJ21_compress_1 : cJ21_compress.data.toList.drop 24 = dktJ21_compress_1 := dk_seg dksJ21_compress_0 24 rfl rfl
theorem dksJ21_compress_2 : cJ21_compress.data.toList.drop 48 = dktJ21_compress_2 := dk_seg dksJ21_compress_1 24 rfl rfl
theorem dJ21_compress_0 : decode cJ21_compress 0 = .ok (.iload_n 2, 1) := dk_28 (dk_at dksJ21_compress_0 0 rfl rfl)
theorem dJ21_compress_1 : decode cJ21_compress 1 = .ok (.newarray .byte, 2) := dk_188_8 (dk_at dksJ21_compress_0 1 rfl rfl)
theorem dJ21_compress_3 : decode cJ21_compress 3 = .ok (.astore_n 3, 1) := dk_78 (dk_at dksJ21_compress_0 3 rfl rfl)
theorem dJ21_compress_4 : decode cJ21_compress 4 = .ok (.aload_n 0, 1) := dk_42 (dk_at dksJ21_compress_0 4 rfl rfl)
theorem dJ21_compress_5 : decode cJ21_compress 5 = .ok (.iload_n 1, 1) := dk_27 (dk_at dksJ21_compress_0 5 rfl rfl)
theorem dJ21_compress_6 : decode cJ21_compress 6 = .ok (.aload_n 3, 1) := dk_45 (dk_at dksJ21_compress_0 6 rfl rfl)
theorem dJ21_compress_7 : decode cJ21_compress 7 = .ok (.iconst 0, 1) := dk_3 (dk_at dksJ21_compress_0 7 rfl rfl)
theorem dJ21_compress_8 : decode cJ21_compress 8 = .ok (.iload_n 2, 1) := dk_28 (dk_at dksJ21_compress_0 8 rfl rfl)
theorem dJ21_compress_9 : decode cJ21_compress 9 = .ok (.invokestatic 123, 3) := dk_184 0 123 (dk_at dksJ21_compress_0 9 rfl rfl)
theorem dJ21_compress_12 : decode cJ21_compress 12 = .ok (.istore 4, 2) := dk_54 4 (dk_at dksJ21_compress_0 12 rfl rfl)
theorem dJ21_compress_14 : decode cJ21_compress 14 = .ok (.iload 4, 2) := dk_21 4 (dk_at dksJ21_compress_0 14 rfl rfl)
theorem dJ21_compress_16 : decode cJ21_compress 16 = .ok (.iload_n 2, 1) := dk_28 (dk_at dksJ21_compress_0 16 rfl rfl)
theorem dJ21_compress_17 : decode cJ21_compress 17 = .ok (.if_icmp .eq 47, 3) := dk_159 0 47 (dk_at dksJ21_compress_0 17 rfl rfl)
theorem dJ21_compress_20 : decode cJ21_compress 20 = .ok (.aload_n 0, 1) := dk_42 (dk_at dksJ21_compress_0 20 rfl rfl)
theorem dJ21_compress_21 : decode cJ21_compress 21 = .ok (.iload_n 1, 1) := dk_27 (dk_at dksJ21_compress_0 21 rfl rfl)
theorem dJ21_compress_22 : decode cJ21_compress 22 = .ok (.iconst 1, 1) := dk_4 (dk_at dksJ21_compress_0 22 rfl rfl)
theorem dJ21_compress_23 : decode cJ21_compress 23 = .ok (.ishl, 1) := dk_120 (dk_at dksJ21_compress_0 23 rfl rfl)
theorem dJ21_compress_24 : decode cJ21_compress 24 = .ok (.iload_n 1, 1) := dk_27 (dk_at dksJ21_compress_1 0 rfl rfl)
theorem dJ21_compress_25 : decode cJ21_compress 25 = .ok (.iload_n 2, 1) := dk_28 (dk_at dksJ21_compress_1 1 rfl rfl)
theorem dJ21_compress_26 : decode cJ21_compress 26 = .ok (.iadd, 1) := dk_96 (dk_at dksJ21_compress_1 2 rfl rfl)
theorem dJ21_compress_27 : decode cJ21_compress 27 = .ok (.invokestatic 11, 3) := dk_184 0 11 (dk_at dksJ21_compress_1 3 rfl rfl)
theorem dJ21_compress_30 : decode cJ21_compress 30 = .ok (.invokestatic 126, 3) := dk_184 0 126 (dk_at dksJ21_compress_1 6 rfl rfl)
theorem dJ21_compress_33 : decode cJ21_compress 33 = .ok (.astore 5, 2) := dk_58 5 (dk_at dksJ21_compress_1 9 rfl rfl)
theorem dJ21_compress_35 : decode cJ21_compress 35 = .ok (.aload 5, 2) := dk_25 5 (dk_at dksJ21_compress_1 11 rfl rfl)
theorem dJ21_compress_37 : decode cJ21_compress 37 = .ok (.iload 4, 2) := dk_21 4 (dk_at dksJ21_compress_1 13 rfl rfl)
theorem dJ21_compress_39 : decode cJ21_compress 39 = .ok (.invokestatic 71, 3) := dk_184 0 71 (dk_at dksJ21_compress_1 15 rfl rfl)
theorem dJ21_compress_42 : decode cJ21_compress 42 = .ok (.sipush 255, 3) := dk_17 0 255 (dk_at dksJ21_compress_1 18 rfl rfl)
theorem dJ21_compress_45 : decode cJ21_compress 45 = .ok (.if_icmp .gt 16, 3) := dk_163 0 16 (dk_at dksJ21_compress_1 21 rfl rfl)
theorem dJ21_compress_48 : decode cJ21_compress 48 = .ok (.aload 5, 2) := dk_25 5 (dk_at dksJ21_compress_2 0 rfl rfl)
theorem dJ21_compress_50 : decode cJ21_compress 50 = .ok (.iconst 0, 1) := dk_3 (dk_at dksJ21_compress_2 2 rfl rfl)
theorem dJ21_compress_51 : decode cJ21_compress 51 = .ok (.aload_n 3, 1) := dk_45 (dk_at dksJ21_compress_2 3 rfl rfl)
theorem dJ21_compress_52 : decode cJ21_compress 52 = .ok (.iconst 0, 1) := dk_3 (dk_at dksJ21_compress_2 4 rfl rfl)
theorem dJ21_compress_53 : decode cJ21_compress 53 = .ok (.iload_n 2, 1) := dk_28 (dk_at dksJ21_compress_2 5 rfl rfl)
theorem dJ21_compress_54 : decode cJ21_compress 54 = .ok (.invokestatic 123, 3) := dk_184 0 123 (dk_at dksJ21_compress_2 6 rfl rfl)
theorem dJ21_compress_57 : decode cJ21_compress 57 = .ok (.iload_n 2, 1) := dk_28 (dk_at dksJ21_compress_2 9 rfl rfl)
theorem dJ21_compress_58 : decode cJ21_compress 58 = .ok (.if_icmp .eq 6, 3) := dk_159 0 6 (dk_at dksJ21_compress_2 10 rfl rfl)
theorem dJ21_compress_61 : decode cJ21_compress 61 = .ok (.aload 5, 2) := dk_25 5 (dk_at dksJ21_compress_2 13 rfl rfl)
theorem dJ21_compress_63 : decode cJ21_compress 63 = .ok (.areturn, 1) := dk_176 (dk_at dksJ21_compress_2 15 rfl rfl)
theorem dJ21_compress_64 : decode cJ21_compress 64 = .ok (.aload_n 3, 1) := dk_45 (dk_at dksJ21_compress_2 16 rfl rfl)
theorem dJ21_compress_65 : decode cJ21_compress 65 = .ok (.areturn, 1) := dk_176 (dk_at dksJ21_compress_2 17 rfl rfl)
abbrev cJ21_compress_2 : ByteArray := prog_89_method_22_code
def yJ21_compress_2 : MethodName := ⟨RJ21, "compress", "([BI[BII)I"⟩
def dkwJ21_compress_2_2 : List UInt8 := [132, 5, 1, 167, 255, 216, 21, 4, 172]
abbrev dktJ21_compress_2_2 : List UInt8 := dkwJ21_compress_2_2 ++ []
def dkwJ21_compress_2_1 : List UInt8 := [21, 6, 17, 0, 255, 164, 0, 6, 21, 5, 172, 44, 29, 21, 6, 145, 84, 132, 1, 1, 132, 3, 1]
abbrev dktJ21_compress_2_1 : List UInt8 := dkwJ21_compress_2_1 ++ dktJ21_compress_2_2
def dkwJ21_compress_2_0 : List UInt8 := [27, 21, 4, 42, 184, 0, 173, 3, 54, 5, 21, 5, 21, 4, 162, 0, 39, 42, 27, 184, 0, 71, 54, 6]
abbrev dktJ21_compress_2_0 : List UInt8 := dkwJ21_compress_2_0 ++ dktJ21_compress_2_1
theorem dksJ21_compress_2_0 : cJ21_compress_2.data.toList.drop 0 = dktJ21_compress_2_0 := by decide +kernel
theorem dksJ21_compress_2_1 : cJ21_compress_2.data.toList.drop 24 = dktJ21_compress_2_1 := dk_seg dksJ21_compress_2_0 24 rfl rfl
theorem dksJ21_compress_2_2 : cJ21_compress_2.data.toList.drop 47 = dktJ21_compress_2_2 := dk_seg dksJ21_compress_2_1 23 rfl rfl
theorem dJ21_compress_2_0 : decode cJ21_compress_2 0 = .ok (.iload_n 1, 1) := dk_27 (dk_at dksJ21_compress_2_0 0 rfl rfl)
theorem dJ21_compress_2_1 : decode cJ21_compress_2 1 = .ok (.iload 4, 2) := dk_21 4 (dk_at dksJ21_compress_2_0 1 rfl rfl)
theorem dJ21_compress_2_3 : decode cJ21_compress_2 3 = .ok (.aload_n 0, 1) := dk_42 (dk_at dksJ21_compress_2_0 3 rfl rfl)
theorem dJ21_compress_2_4 : decode cJ21_compress_2 4 = .ok (.invokestatic 173, 3) := dk_184 0 173 (dk_at dksJ21_compress_2_0 4 rfl rfl)
theorem dJ21_compress_2_7 : decode cJ21_compress_2 7 = .ok (.iconst 0, 1) := dk_3 (dk_at dksJ21_compress_2_0 7 rfl rfl)
theorem dJ21_compress_2_8 : decode cJ21_compress_2 8 = .ok (.istore 5, 2) := dk_54 5 (dk_at dksJ21_compress_2_0 8 rfl rfl)
theorem dJ21_compress_2_10 : decode cJ21_compress_2 10 = .ok (.iload 5, 2) := dk_21 5 (dk_at dksJ21_compress_2_0 10 rfl rfl)
theorem dJ21_compress_2_12 : decode cJ21_compress_2 12 = .ok (.iload 4, 2) := dk_21 4 (dk_at dksJ21_compress_2_0 12 rfl rfl)
theorem dJ21_compress_2_14 : decode cJ21_compress_2 14 = .ok (.if_icmp .ge 39, 3) := dk_162 0 39 (dk_at dksJ21_compress_2_0 14 rfl rfl)
theorem dJ21_compress_2_17 : decode cJ21_compress_2 17 = .ok (.aload_n 0, 1) := dk_42 (dk_at dksJ21_compress_2_0 17 rfl rfl)
theorem dJ21_compress_2_18 : decode cJ21_compress_2 18 = .ok (.iload_n 1, 1) := dk_27 (dk_at dksJ21_compress_2_0 18 rfl rfl)
theorem dJ21_compress_2_19 : decode cJ21_compress_2 19 = .ok (.invokestatic 71, 3) := dk_184 0 71 (dk_at dksJ21_compress_2_0 19 rfl rfl)
theorem dJ21_compress_2_22 : decode cJ21_compress_2 22 = .ok (.istore 6, 2) := dk_54 6 (dk_at dksJ21_compress_2_0 22 rfl rfl)
theorem dJ21_compress_2_24 : decode cJ21_compress_2 24 = .ok (.iload 6, 2) := dk_21 6 (dk_at dksJ21_compress_2_1 0 rfl rfl)
theorem dJ21_compress_2_26 : decode cJ21_compress_2 26 = .ok (.sipush 255, 3) := dk_17 0 255 (dk_at dksJ21_compress_2_1 2 rfl rfl)
theorem dJ21_compress_2_29 : decode cJ21_compress_2 29 = .ok (.if_icmp .le 6, 3) := dk_164 0 6 (dk_at dksJ21_compress_2_1 5 rfl rfl)
theorem dJ21_compress_2_32 : decode cJ21_compress_2 32 = .ok (.iload 5, 2) := dk_21 5 (dk_at dksJ21_compress_2_1 8 rfl rfl)
theorem dJ21_compress_2_34 : decode cJ21_compress_2 34 = .ok (.ireturn, 1) := dk_172 (dk_at dksJ21_compress_2_1 10 rfl rfl)
theorem dJ21_compress_2_35 : decode cJ21_compress_2 35 = .ok (.aload_n 2, 1) := dk_44 (dk_at dksJ21_compress_2_1 11 rfl rfl)
theorem dJ21_compress_2_36 : decode cJ21_compress_2 36 = .ok (.iload_n 3, 1) := dk_29 (dk_at dksJ21_compress_2_1 12 rfl rfl)
theorem dJ21_compress_2_37 : decode cJ21_compress_2 37 = .ok (.iload 6, 2) := dk_21 6 (dk_at dksJ21_compress_2_1 13 rfl rfl)
theorem dJ21_compress_2_39 : decode cJ21_compress_2 39 = .ok (.i2b, 1) := dk_145 (dk_at dksJ21_compress_2_1 15 rfl rfl)
theorem dJ21_compress_2_40 : decode cJ21_compress_2 40 = .ok (.bastore, 1) := dk_84 (dk_at dksJ21_compress_2_1 16 rfl rfl)
theorem dJ21_compress_2_41 : decode cJ21_compress_2 41 = .ok (.iinc 1 1, 3) := dk_132 1 1 (dk_at dksJ21_compress_2_1 17 rfl rfl)
theorem dJ21_compress_2_44 : decode cJ21_compress_2 44 = .ok (.iinc 3 1, 3) := dk_132 3 1 (dk_at dksJ21_compress_2_1 20 rfl rfl)
theorem dJ21_compress_2_47 : decode cJ21_compress_2 47 = .ok (.iinc 5 1, 3) := dk_132 5 1 (dk_at dksJ21_compress_2_2 0 rfl rfl)
theorem dJ21_compress_2_50 : decode cJ21_compress_2 50 = .ok (.goto (-40), 3) := dk_167 255 216 (dk_at dksJ21_compress_2_2 3 rfl rfl)
theorem dJ21_compress_2_53 : decode cJ21_compress_2 53 = .ok (.iload 4, 2) := dk_21 4 (dk_at dksJ21_compress_2_2 6 rfl rfl)
theorem dJ21_compress_2_55 : decode cJ21_compress_2 55 = .ok (.ireturn, 1) := dk_172 (dk_at dksJ21_compress_2_2 8 rfl rfl)
abbrev cJ21_getChar : ByteArray := prog_89_method_5_code
def yJ21_getChar : MethodName := ⟨RJ21, "getChar", "([BI)C"⟩
def dkwJ21_getChar_2 : List UInt8 := [51, 17, 0, 255, 126, 178, 0, 63, 120, 128, 146, 172]
abbrev dktJ21_getChar_2 : List UInt8 := dkwJ21_getChar_2 ++ []
def dkwJ21_getChar_1 : List UInt8 := [183, 0, 56, 191, 27, 4, 120, 60, 42, 27, 132, 1, 1, 51, 17, 0, 255, 126, 178, 0, 59, 120, 42, 27]
abbrev dktJ21_getChar_1 : List UInt8 := dkwJ21_getChar_1 ++ dktJ21_getChar_2
def dkwJ21_getChar_0 : List UInt8 := [178, 0, 44, 154, 0, 25, 27, 155, 0, 11, 27, 42, 184, 0, 48, 161, 0, 13, 187, 0, 52, 89, 18, 54]
abbrev dktJ21_getChar_0 : List UInt8 := dkwJ21_getChar_0 ++ dktJ21_getChar_1
theorem dksJ21_getChar_0 : cJ21_getChar.data.toList.drop 0 = dktJ21_getChar_0 := by decide +kernel
theorem dksJ21_getChar_1 : cJ21_getChar.data.toList.drop 24 = dktJ21_getChar_1 := dk_seg dksJ21_getChar_0 24 rfl rfl
theorem dksJ21_getChar_2 : cJ21_getChar.data.toList.drop 48 = dktJ21_getChar_2 := dk_seg dksJ21_getChar_1 24 rfl rfl
theorem dJ21_getChar_0 : decode cJ21_getChar 0 = .ok (.getstatic 44, 3) := dk_178 0 44 (dk_at dksJ21_getChar_0 0 rfl rfl)
theorem dJ21_getChar_3 : decode cJ21_getChar 3 = .ok (.ifCond .ne 25, 3) := dk_154 0 25 (dk_at dksJ21_getChar_0 3 rfl rfl)
theorem dJ21_getChar_6 : decode cJ21_getChar 6 = .ok (.iload_n 1, 1) := dk_27 (dk_at dksJ21_getChar_0 6 rfl rfl)
theorem dJ21_getChar_7 : decode cJ21_getChar 7 = .ok (.ifCond .lt 11, 3) := dk_155 0 11 (dk_at dksJ21_getChar_0 7 rfl rfl)
theorem dJ21_getChar_10 : decode cJ21_getChar 10 = .ok (.iload_n 1, 1) := dk_27 (dk_at dksJ21_getChar_0 10 rfl rfl)
theorem dJ21_getChar_11 : decode cJ21_getChar 11 = .ok (.aload_n 0, 1) := dk_42 (dk_at dksJ21_getChar_0 11 rfl rfl)
theorem dJ21_getChar_12 : decode cJ21_getChar 12 = .ok (.invokestatic 48, 3) := dk_184 0 48 (dk_at dksJ21_getChar_0 12 rfl rfl)
theorem dJ21_getChar_15 : decode cJ21_getChar 15 = .ok (.if_icmp .lt 13, 3) := dk_161 0 13 (dk_at dksJ21_getChar_0 15 rfl rfl)
theorem dJ21_getChar_18 : decode cJ21_getChar 18 = .ok (.new 52, 3) := dk_187 0 52 (dk_at dksJ21_getChar_0 18 rfl rfl)
theorem dJ21_getChar_21 : decode cJ21_getChar 21 = .ok (.dup, 1) := dk_89 (dk_at dksJ21_getChar_0 21 rfl rfl)
theorem dJ21_getChar_22 : decode cJ21_getChar 22 = .ok (.ldc 54, 2) := dk_18 54 (dk_at dksJ21_getChar_0 22 rfl rfl)
theorem dJ21_getChar_24 : decode cJ21_getChar 24 = .ok (.invokespecial 56, 3) := dk_183 0 56 (dk_at dksJ21_getChar_1 0 rfl rfl)
theorem dJ21_getChar_27 : decode cJ21_getChar 27 = .ok (.athrow, 1) := dk_191 (dk_at dksJ21_getChar_1 3 rfl rfl)
theorem dJ21_getChar_28 : decode cJ21_getChar 28 = .ok (.iload_n 1, 1) := dk_27 (dk_at dksJ21_getChar_1 4 rfl rfl)
theorem dJ21_getChar_29 : decode cJ21_getChar 29 = .ok (.iconst 1, 1) := dk_4 (dk_at dksJ21_getChar_1 5 rfl rfl)
theorem dJ21_getChar_30 : decode cJ21_getChar 30 = .ok (.ishl, 1) := dk_120 (dk_at dksJ21_getChar_1 6 rfl rfl)
theorem dJ21_getChar_31 : decode cJ21_getChar 31 = .ok (.istore_n 1, 1) := dk_60 (dk_at dksJ21_getChar_1 7 rfl rfl)
theorem dJ21_getChar_32 : decode cJ21_getChar 32 = .ok (.aload_n 0, 1) := dk_42 (dk_at dksJ21_getChar_1 8 rfl rfl)
theorem dJ21_getChar_33 : decode cJ21_getChar 33 = .ok (.iload_n 1, 1) := dk_27 (dk_at dksJ21_getChar_1 9 rfl rfl)
theorem dJ21_getChar_34 : decode cJ21_getChar 34 = .ok (.iinc 1 1, 3) := dk_132 1 1 (dk_at dksJ21_getChar_1 10 rfl rfl)
theorem dJ21_getChar_37 : decode cJ21_getChar 37 = .ok (.baload, 1) := dk_51 (dk_at dksJ21_getChar_1 13 rfl rfl)
theorem dJ21_getChar_38 : decode cJ21_getChar 38 = .ok (.sipush 255, 3) := dk_17 0 255 (dk_at dksJ21_getChar_1 14 rfl rfl)
theorem dJ21_getChar_41 : decode cJ21_getChar 41 = .ok (.iand, 1) := dk_126 (dk_at dksJ21_getChar_1 17 rfl rfl)
theorem dJ21_getChar_42 : decode cJ21_getChar 42 = .ok (.getstatic 59, 3) := dk_178 0 59 (dk_at dksJ21_getChar_1 18 rfl rfl)
theorem dJ21_getChar_45 : decode cJ21_getChar 45 = .ok (.ishl, 1) := dk_120 (dk_at dksJ21_getChar_1 21 rfl rfl)
theorem dJ21_getChar_46 : decode cJ21_getChar 46 = .ok (.aload_n 0, 1) := dk_42 (dk_at dksJ21_getChar_1 22 rfl rfl)
theorem dJ21_getChar_47 : decode cJ21_getChar 47 = .ok (.iload_n 1, 1) := dk_27 (dk_at dksJ21_getChar_1 23 rfl rfl)
theorem dJ21_getChar_48 : decode cJ21_getChar 48 = .ok (.baload, 1) := dk_51 (dk_at dksJ21_getChar_2 0 rfl rfl)
theorem dJ21_getChar_49 : decode cJ21_getChar 49 = .ok (.sipush 255, 3) := dk_17 0 255 (dk_at dksJ21_getChar_2 1 rfl rfl)
theorem dJ21_getChar_52 : decode cJ21_getChar 52 = .ok (.iand, 1) := dk_126 (dk_at dksJ21_getChar_2 4 rfl rfl)
theorem dJ21_getChar_53 : decode cJ21_getChar 53 = .ok (.getstatic 63, 3) := dk_178 0 63 (dk_at dksJ21_getChar_2 5 rfl rfl)
theorem dJ21_getChar_56 : decode cJ21_getChar 56 = .ok (.ishl, 1) := dk_120 (dk_at dksJ21_getChar_2 8 rfl rfl)
theorem dJ21_getChar_57 : decode cJ21_getChar 57 = .ok (.ior, 1) := dk_128 (dk_at dksJ21_getChar_2 9 rfl rfl)
theorem dJ21_getChar_58 : decode cJ21_getChar 58 = .ok (.i2c, 1) := dk_146 (dk_at dksJ21_getChar_2 10 rfl rfl)
theorem dJ21_getChar_59 : decode cJ21_getChar 59 = .ok (.ireturn, 1) := dk_172 (dk_at dksJ21_getChar_2 11 rfl rfl)
abbrev cJ21_coderFromArrayLen : ByteArray := prog_89_method_15_code
def yJ21_coderFromArrayLen : MethodName := ⟨RJ21, "coderFromArrayLen", "([BI)B"⟩
def dkwJ21_coderFromArrayLen_0 : List UInt8 := [27, 42, 190, 100, 16, 31, 124, 145, 172]
abbrev dktJ21_coderFromArrayLen_0 : List UInt8 := dkwJ21_coderFromArrayLen_0 ++ []
theorem dksJ21_coderFromArrayLen_0 : cJ21_coderFromArrayLen.data.toList.drop 0 = dktJ21_coderFromArrayLen_0 := by decide +kernel
theorem dJ21_coderFromArrayLen_0 : decode cJ21_coderFromArrayLen 0 = .ok (.iload_n 1, 1) := dk_27 (dk_at dksJ21_coderFromArrayLen_0 0 rfl rfl)
theorem dJ21_coderFromArrayLen_1 : decode cJ21_coderFromArrayLen 1 = .ok (.aload_n 0, 1) := dk_42 (dk_at dksJ21_coderFromArrayLen_0 1 rfl rfl)
theorem dJ21_coderFromArrayLen_2 : decode cJ21_coderFromArrayLen 2 = .ok (.arraylength, 1) := dk_190 (dk_at dksJ21_coderFromArrayLen_0 2 rfl rfl)
theorem dJ21_coderFromArrayLen_3 : decode cJ21_coderFromArrayLen 3 = .ok (.isub, 1) := dk_100 (dk_at dksJ21_coderFromArrayLen_0 3 rfl rfl)
theorem dJ21_coderFromArrayLen_4 : decode cJ21_coderFromArrayLen 4 = .ok (.bipush 31, 2) := dk_16 31 (dk_at dksJ21_coderFromArrayLen_0 4 rfl rfl)
theorem dJ21_coderFromArrayLen_6 : decode cJ21_coderFromArrayLen 6 = .ok (.iushr, 1) := dk_124 (dk_at dksJ21_coderFromArrayLen_0 6 rfl rfl)
theorem dJ21_coderFromArrayLen_7 : decode cJ21_coderFromArrayLen 7 = .ok (.i2b, 1) := dk_145 (dk_at dksJ21_coderFromArrayLen_0 7 rfl rfl)
theorem dJ21_coderFromArrayLen_8 : decode cJ21_coderFromArrayLen 8 = .ok (.ireturn, 1) := dk_172 (dk_at dksJ21_coderFromArrayLen_0 8 rfl rfl)
abbrev cJ21_charAt : ByteArray := prog_89_method_83_code
def yJ21_charAt : MethodName := ⟨RJ21, "charAt", "([BI)C"⟩
def dkwJ21_charAt_0 : List UInt8 := [27, 42, 184, 0, 67, 42, 27, 184, 0, 71, 172]
abbrev dktJ21_charAt_0 : List UInt8 := dkwJ21_charAt_0 ++ []
theorem dksJ21_charAt_0 : cJ21_charAt.data.toList.drop 0 = dktJ21_charAt_0 := by decide +kernel
theorem dJ21_charAt_0 : decode cJ21_charAt 0 = .ok (.iload_n 1, 1) := dk_27 (dk_at dksJ21_charAt_0 0 rfl rfl)
theorem dJ21_charAt_1 : decode cJ21_charAt 1 = .ok (.aload_n 0, 1) := dk_42 (dk_at dksJ21_charAt_0 1 rfl rfl)
theorem dJ21_charAt_2 : decode cJ21_charAt 2 = .ok (.invokestatic 67, 3) := dk_184 0 67 (dk_at dksJ21_charAt_0 2 rfl rfl)
theorem dJ21_charAt_5 : decode cJ21_charAt 5 = .ok (.aload_n 0, 1) := dk_42 (dk_at dksJ21_charAt_0 5 rfl rfl)
theorem dJ21_charAt_6 : decode cJ21_charAt 6 = .ok (.iload_n 1, 1) := dk_27 (dk_at dksJ21_charAt_0 6 rfl rfl)
theorem dJ21_charAt_7 : decode cJ21_charAt 7 = .ok (.invokestatic 71, 3) := dk_184 0 71 (dk_at dksJ21_charAt_0 7 rfl rfl)
theorem dJ21_charAt_10 : decode cJ21_charAt 10 = .ok (.ireturn, 1) := dk_172 (dk_at dksJ21_charAt_0 10 rfl rfl)
abbrev cJ21_hashCode : ByteArray := prog_89_method_39_code
def yJ21_hashCode : MethodName := ⟨RJ21, "hashCode", "([B)I"⟩
def dkwJ21_hashCode_2 : List UInt8 := [3, 167, 0, 22, 42, 3, 184, 0, 71, 167, 0, 14, 42, 3, 42, 190, 4, 122, 3, 8, 184, 0, 220, 172]
abbrev dktJ21_hashCode_2 : List UInt8 := dkwJ21_hashCode_2 ++ []
def dkwJ21_hashCode_1 : List UInt8 := [171, 0, 0, 0, 0, 38, 0, 0, 0, 2, 0, 0, 0, 0, 0, 0, 0, 26, 0, 0, 0, 2, 0, 0, 0, 30]
abbrev dktJ21_hashCode_1 : List UInt8 := dkwJ21_hashCode_1 ++ dktJ21_hashCode_2
def dkwJ21_hashCode_0 : List UInt8 := [42, 190]
abbrev dktJ21_hashCode_0 : List UInt8 := dkwJ21_hashCode_0 ++ dktJ21_hashCode_1
theorem dksJ21_hashCode_0 : cJ21_hashCode.data.toList.drop 0 = dktJ21_hashCode_0 := by decide +kernel
theorem dksJ21_hashCode_1 : cJ21_hashCode.data.toList.drop 2 = dktJ21_hashCode_1 := dk_seg dksJ21_hashCode_0 2 rfl rfl
theorem dksJ21_hashCode_2 : cJ21_hashCode.data.toList.drop 28 = dktJ21_hashCode_2 := dk_seg dksJ21_hashCode_1 26 rfl rfl
theorem dJ21_hashCode_0 : decode cJ21_hashCode 0 = .ok (.aload_n 0, 1) := dk_42 (dk_at dksJ21_hashCode_0 0 rfl rfl)
theorem dJ21_hashCode_1 : decode cJ21_hashCode 1 = .ok (.arraylength, 1) := dk_190 (dk_at dksJ21_hashCode_0 1 rfl rfl)
theorem dJ21_hashCode_2 : decode cJ21_hashCode 2 = .ok (.lookupswitch 38 #[(0, 26), (2, 30)], 26) := by decide +kernel
theorem dJ21_hashCode_28 : decode cJ21_hashCode 28 = .ok (.iconst 0, 1) := dk_3 (dk_at dksJ21_hashCode_2 0 rfl rfl)
theorem dJ21_hashCode_29 : decode cJ21_hashCode 29 = .ok (.goto 22, 3) := dk_167 0 22 (dk_at dksJ21_hashCode_2 1 rfl rfl)
theorem dJ21_hashCode_32 : decode cJ21_hashCode 32 = .ok (.aload_n 0, 1) := dk_42 (dk_at dksJ21_hashCode_2 4 rfl rfl)
theorem dJ21_hashCode_33 : decode cJ21_hashCode 33 = .ok (.iconst 0, 1) := dk_3 (dk_at dksJ21_hashCode_2 5 rfl rfl)
theorem dJ21_hashCode_34 : decode cJ21_hashCode 34 = .ok (.invokestatic 71, 3) := dk_184 0 71 (dk_at dksJ21_hashCode_2 6 rfl rfl)
theorem dJ21_hashCode_37 : decode cJ21_hashCode 37 = .ok (.goto 14, 3) := dk_167 0 14 (dk_at dksJ21_hashCode_2 9 rfl rfl)
theorem dJ21_hashCode_40 : decode cJ21_hashCode 40 = .ok (.aload_n 0, 1) := dk_42 (dk_at dksJ21_hashCode_2 12 rfl rfl)
theorem dJ21_hashCode_41 : decode cJ21_hashCode 41 = .ok (.iconst 0, 1) := dk_3 (dk_at dksJ21_hashCode_2 13 rfl rfl)
theorem dJ21_hashCode_42 : decode cJ21_hashCode 42 = .ok (.aload_n 0, 1) := dk_42 (dk_at dksJ21_hashCode_2 14 rfl rfl)
theorem dJ21_hashCode_43 : decode cJ21_hashCode 43 = .ok (.arraylength, 1) := dk_190 (dk_at dksJ21_hashCode_2 15 rfl rfl)
theorem dJ21_hashCode_44 : decode cJ21_hashCode 44 = .ok (.iconst 1, 1) := dk_4 (dk_at dksJ21_hashCode_2 16 rfl rfl)
theorem dJ21_hashCode_45 : decode cJ21_hashCode 45 = .ok (.ishr, 1) := dk_122 (dk_at dksJ21_hashCode_2 17 rfl rfl)
theorem dJ21_hashCode_46 : decode cJ21_hashCode 46 = .ok (.iconst 0, 1) := dk_3 (dk_at dksJ21_hashCode_2 18 rfl rfl)
theorem dJ21_hashCode_47 : decode cJ21_hashCode 47 = .ok (.iconst 5, 1) := dk_8 (dk_at dksJ21_hashCode_2 19 rfl rfl)
theorem dJ21_hashCode_48 : decode cJ21_hashCode 48 = .ok (.invokestatic 220, 3) := dk_184 0 220 (dk_at dksJ21_hashCode_2 20 rfl rfl)
theorem dJ21_hashCode_51 : decode cJ21_hashCode 51 = .ok (.ireturn, 1) := dk_172 (dk_at dksJ21_hashCode_2 23 rfl rfl)
abbrev cJ21_compareTo : ByteArray := prog_89_method_29_code
def yJ21_compareTo : MethodName := ⟨RJ21, "compareTo", "([B[B)I"⟩
def dkwJ21_compareTo_0 : List UInt8 := [42, 184, 0, 48, 61, 43, 184, 0, 48, 62, 42, 43, 28, 29, 184, 0, 176, 172]
abbrev dktJ21_compareTo_0 : List UInt8 := dkwJ21_compareTo_0 ++ []
theorem dksJ21_compareTo_0 : cJ21_compareTo.data.toList.drop 0 = dktJ21_compareTo_0 := by decide +kernel
theorem dJ21_compareTo_0 : decode cJ21_compareTo 0 = .ok (.aload_n 0, 1) := dk_42 (dk_at dksJ21_compareTo_0 0 rfl rfl)
theorem dJ21_compareTo_1 : decode cJ21_compareTo 1 = .ok (.invokestatic 48, 3) := dk_184 0 48 (dk_at dksJ21_compareTo_0 1 rfl rfl)
theorem dJ21_compareTo_4 : decode cJ21_compareTo 4 = .ok (.istore_n 2, 1) := dk_61 (dk_at dksJ21_compareTo_0 4 rfl rfl)
theorem dJ21_compareTo_5 : decode cJ21_compareTo 5 = .ok (.aload_n 1, 1) := dk_43 (dk_at dksJ21_compareTo_0 5 rfl rfl)
theorem dJ21_compareTo_6 : decode cJ21_compareTo 6 = .ok (.invokestatic 48, 3) := dk_184 0 48 (dk_at dksJ21_compareTo_0 6 rfl rfl)
theorem dJ21_compareTo_9 : decode cJ21_compareTo 9 = .ok (.istore_n 3, 1) := dk_62 (dk_at dksJ21_compareTo_0 9 rfl rfl)
theorem dJ21_compareTo_10 : decode cJ21_compareTo 10 = .ok (.aload_n 0, 1) := dk_42 (dk_at dksJ21_compareTo_0 10 rfl rfl)
theorem dJ21_compareTo_11 : decode cJ21_compareTo 11 = .ok (.aload_n 1, 1) := dk_43 (dk_at dksJ21_compareTo_0 11 rfl rfl)
theorem dJ21_compareTo_12 : decode cJ21_compareTo 12 = .ok (.iload_n 2, 1) := dk_28 (dk_at dksJ21_compareTo_0 12 rfl rfl)
theorem dJ21_compareTo_13 : decode cJ21_compareTo 13 = .ok (.iload_n 3, 1) := dk_29 (dk_at dksJ21_compareTo_0 13 rfl rfl)
theorem dJ21_compareTo_14 : decode cJ21_compareTo 14 = .ok (.invokestatic 176, 3) := dk_184 0 176 (dk_at dksJ21_compareTo_0 14 rfl rfl)
theorem dJ21_compareTo_17 : decode cJ21_compareTo 17 = .ok (.ireturn, 1) := dk_172 (dk_at dksJ21_compareTo_0 17 rfl rfl)
abbrev cJ21_compareValues : ByteArray := prog_89_method_31_code
def yJ21_compareValues : MethodName := ⟨RJ21, "compareValues", "([B[BII)I"⟩
def dkwJ21_compareValues_2 : List UInt8 := [132, 5, 1, 167, 255, 217, 28, 29, 100, 172]
abbrev dktJ21_compareValues_2 : List UInt8 := dkwJ21_compareValues_2 ++ []
def dkwJ21_compareValues_1 : List UInt8 := [54, 6, 43, 21, 5, 184, 0, 71, 54, 7, 21, 6, 21, 7, 159, 0, 9, 21, 6, 21, 7, 100, 172]
abbrev dktJ21_compareValues_1 : List UInt8 := dkwJ21_compareValues_1 ++ dktJ21_compareValues_2
def dkwJ21_compareValues_0 : List UInt8 := [28, 29, 184, 0, 183, 54, 4, 3, 54, 5, 21, 5, 21, 4, 162, 0, 38, 42, 21, 5, 184, 0, 71]
abbrev dktJ21_compareValues_0 : List UInt8 := dkwJ21_compareValues_0 ++ dktJ21_compareValues_1
theorem dksJ21_compareValues_0 : cJ21_compareValues.data.toList.drop 0 = dktJ21_compareValues_0 := by decide +kernel
theorem dksJ21_compareValues_1 : cJ21_compareValues.data.toList.drop 23 = dktJ21_compareValues_1 := dk_seg dksJ21_compareValues_0 23 rfl rfl
theorem dksJ21_compareValues_2 : cJ21_compareValues.data.toList.drop 46 = dktJ21_compareValues_2 := dk_seg dksJ21_compareValues_1 23 rfl rfl
theorem dJ21_compareValues_0 : decode cJ21_compareValues 0 = .ok (.iload_n 2, 1) := dk_28 (dk_at dksJ21_compareValues_0 0 rfl rfl)
theorem dJ21_compareValues_1 : decode cJ21_compareValues 1 = .ok (.iload_n 3, 1) := dk_29 (dk_at dksJ21_compareValues_0 1 rfl rfl)
theorem dJ21_compareValues_2 : decode cJ21_compareValues 2 = .ok (.invokestatic 183, 3) := dk_184 0 183 (dk_at dksJ21_compareValues_0 2 rfl rfl)
theorem dJ21_compareValues_5 : decode cJ21_compareValues 5 = .ok (.istore 4, 2) := dk_54 4 (dk_at dksJ21_compareValues_0 5 rfl rfl)
theorem dJ21_compareValues_7 : decode cJ21_compareValues 7 = .ok (.iconst 0, 1) := dk_3 (dk_at dksJ21_compareValues_0 7 rfl rfl)
theorem dJ21_compareValues_8 : decode cJ21_compareValues 8 = .ok (.istore 5, 2) := dk_54 5 (dk_at dksJ21_compareValues_0 8 rfl rfl)
theorem dJ21_compareValues_10 : decode cJ21_compareValues 10 = .ok (.iload 5, 2) := dk_21 5 (dk_at dksJ21_compareValues_0 10 rfl rfl)
theorem dJ21_compareValues_12 : decode cJ21_compareValues 12 = .ok (.iload 4, 2) := dk_21 4 (dk_at dksJ21_compareValues_0 12 rfl rfl)
theorem dJ21_compareValues_14 : decode cJ21_compareValues 14 = .ok (.if_icmp .ge 38, 3) := dk_162 0 38 (dk_at dksJ21_compareValues_0 14 rfl rfl)
theorem dJ21_compareValues_17 : decode cJ21_compareValues 17 = .ok (.aload_n 0, 1) := dk_42 (dk_at dksJ21_compareValues_0 17 rfl rfl)
theorem dJ21_compareValues_18 : decode cJ21_compareValues 18 = .ok (.iload 5, 2) := dk_21 5 (dk_at dksJ21_compareValues_0 18 rfl rfl)
theorem dJ21_compareValues_20 : decode cJ21_compareValues 20 = .ok (.invokestatic 71, 3) := dk_184 0 71 (dk_at dksJ21_compareValues_0 20 rfl rfl)
theorem dJ21_compareValues_23 : decode cJ21_compareValues 23 = .ok (.istore 6, 2) := dk_54 6 (dk_at dksJ21_compareValues_1 0 rfl rfl)
theorem dJ21_compareValues_25 : decode cJ21_compareValues 25 = .ok (.aload_n 1, 1) := dk_43 (dk_at dksJ21_compareValues_1 2 rfl rfl)
theorem dJ21_compareValues_26 : decode cJ21_compareValues 26 = .ok (.iload 5, 2) := dk_21 5 (dk_at dksJ21_compareValues_1 3 rfl rfl)
theorem dJ21_compareValues_28 : decode cJ21_compareValues 28 = .ok (.invokestatic 71, 3) := dk_184 0 71 (dk_at dksJ21_compareValues_1 5 rfl rfl)
theorem dJ21_compareValues_31 : decode cJ21_compareValues 31 = .ok (.istore 7, 2) := dk_54 7 (dk_at dksJ21_compareValues_1 8 rfl rfl)
theorem dJ21_compareValues_33 : decode cJ21_compareValues 33 = .ok (.iload 6, 2) := dk_21 6 (dk_at dksJ21_compareValues_1 10 rfl rfl)
theorem dJ21_compareValues_35 : decode cJ21_compareValues 35 = .ok (.iload 7, 2) := dk_21 7 (dk_at dksJ21_compareValues_1 12 rfl rfl)
theorem dJ21_compareValues_37 : decode cJ21_compareValues 37 = .ok (.if_icmp .eq 9, 3) := dk_159 0 9 (dk_at dksJ21_compareValues_1 14 rfl rfl)
theorem dJ21_compareValues_40 : decode cJ21_compareValues 40 = .ok (.iload 6, 2) := dk_21 6 (dk_at dksJ21_compareValues_1 17 rfl rfl)
theorem dJ21_compareValues_42 : decode cJ21_compareValues 42 = .ok (.iload 7, 2) := dk_21 7 (dk_at dksJ21_compareValues_1 19 rfl rfl)
theorem dJ21_compareValues_44 : decode cJ21_compareValues 44 = .ok (.isub, 1) := dk_100 (dk_at dksJ21_compareValues_1 21 rfl rfl)
theorem dJ21_compareValues_45 : decode cJ21_compareValues 45 = .ok (.ireturn, 1) := dk_172 (dk_at dksJ21_compareValues_1 22 rfl rfl)
theorem dJ21_compareValues_46 : decode cJ21_compareValues 46 = .ok (.iinc 5 1, 3) := dk_132 5 1 (dk_at dksJ21_compareValues_2 0 rfl rfl)
theorem dJ21_compareValues_49 : decode cJ21_compareValues 49 = .ok (.goto (-39), 3) := dk_167 255 217 (dk_at dksJ21_compareValues_2 3 rfl rfl)
theorem dJ21_compareValues_52 : decode cJ21_compareValues 52 = .ok (.iload_n 2, 1) := dk_28 (dk_at dksJ21_compareValues_2 6 rfl rfl)
theorem dJ21_compareValues_53 : decode cJ21_compareValues 53 = .ok (.iload_n 3, 1) := dk_29 (dk_at dksJ21_compareValues_2 7 rfl rfl)
theorem dJ21_compareValues_54 : decode cJ21_compareValues 54 = .ok (.isub, 1) := dk_100 (dk_at dksJ21_compareValues_2 8 rfl rfl)
theorem dJ21_compareValues_55 : decode cJ21_compareValues 55 = .ok (.ireturn, 1) := dk_172 (dk_at dksJ21_compareValues_2 9 rfl rfl)
abbrev cJ21_compareToLatin1 : ByteArray := prog_89_method_32_code
def yJ21_compareToLatin1 : MethodName := ⟨RJ21, "compareToLatin1", "([B[B)I"⟩
def dkwJ21_compareToLatin1_0 : List UInt8 := [43, 42, 184, 0, 189, 116, 172]
abbrev dktJ21_compareToLatin1_0 : List UInt8 := dkwJ21_compareToLatin1_0 ++ []
theorem dksJ21_compareToLatin1_0 : cJ21_compareToLatin1.data.toList.drop 0 = dktJ21_compareToLatin1_0 := by decide +kernel
theorem dJ21_compareToLatin1_0 : decode cJ21_compareToLatin1 0 = .ok (.aload_n 1, 1) := dk_43 (dk_at dksJ21_compareToLatin1_0 0 rfl rfl)
theorem dJ21_compareToLatin1_1 : decode cJ21_compareToLatin1 1 = .ok (.aload_n 0, 1) := dk_42 (dk_at dksJ21_compareToLatin1_0 1 rfl rfl)
theorem dJ21_compareToLatin1_2 : decode cJ21_compareToLatin1 2 = .ok (.invokestatic 189, 3) := dk_184 0 189 (dk_at dksJ21_compareToLatin1_0 2 rfl rfl)
theorem dJ21_compareToLatin1_5 : decode cJ21_compareToLatin1 5 = .ok (.ineg, 1) := dk_116 (dk_at dksJ21_compareToLatin1_0 5 rfl rfl)
theorem dJ21_compareToLatin1_6 : decode cJ21_compareToLatin1 6 = .ok (.ireturn, 1) := dk_172 (dk_at dksJ21_compareToLatin1_0 6 rfl rfl)
abbrev cJ21_compareTo_2 : ByteArray := prog_89_method_30_code
def yJ21_compareTo_2 : MethodName := ⟨RJ21, "compareTo", "([B[BII)I"⟩
def dkwJ21_compareTo_2_0 : List UInt8 := [28, 42, 184, 0, 180, 29, 43, 184, 0, 180, 42, 43, 28, 29, 184, 0, 176, 172]
abbrev dktJ21_compareTo_2_0 : List UInt8 := dkwJ21_compareTo_2_0 ++ []
theorem dksJ21_compareTo_2_0 : cJ21_compareTo_2.data.toList.drop 0 = dktJ21_compareTo_2_0 := by decide +kernel
theorem dJ21_compareTo_2_0 : decode cJ21_compareTo_2 0 = .ok (.iload_n 2, 1) := dk_28 (dk_at dksJ21_compareTo_2_0 0 rfl rfl)
theorem dJ21_compareTo_2_1 : decode cJ21_compareTo_2 1 = .ok (.aload_n 0, 1) := dk_42 (dk_at dksJ21_compareTo_2_0 1 rfl rfl)
theorem dJ21_compareTo_2_2 : decode cJ21_compareTo_2 2 = .ok (.invokestatic 180, 3) := dk_184 0 180 (dk_at dksJ21_compareTo_2_0 2 rfl rfl)
theorem dJ21_compareTo_2_5 : decode cJ21_compareTo_2 5 = .ok (.iload_n 3, 1) := dk_29 (dk_at dksJ21_compareTo_2_0 5 rfl rfl)
theorem dJ21_compareTo_2_6 : decode cJ21_compareTo_2 6 = .ok (.aload_n 1, 1) := dk_43 (dk_at dksJ21_compareTo_2_0 6 rfl rfl)
theorem dJ21_compareTo_2_7 : decode cJ21_compareTo_2 7 = .ok (.invokestatic 180, 3) := dk_184 0 180 (dk_at dksJ21_compareTo_2_0 7 rfl rfl)
theorem dJ21_compareTo_2_10 : decode cJ21_compareTo_2 10 = .ok (.aload_n 0, 1) := dk_42 (dk_at dksJ21_compareTo_2_0 10 rfl rfl)
theorem dJ21_compareTo_2_11 : decode cJ21_compareTo_2 11 = .ok (.aload_n 1, 1) := dk_43 (dk_at dksJ21_compareTo_2_0 11 rfl rfl)
theorem dJ21_compareTo_2_12 : decode cJ21_compareTo_2 12 = .ok (.iload_n 2, 1) := dk_28 (dk_at dksJ21_compareTo_2_0 12 rfl rfl)
theorem dJ21_compareTo_2_13 : decode cJ21_compareTo_2 13 = .ok (.iload_n 3, 1) := dk_29 (dk_at dksJ21_compareTo_2_0 13 rfl rfl)
theorem dJ21_compareTo_2_14 : decode cJ21_compareTo_2 14 = .ok (.invokestatic 176, 3) := dk_184 0 176 (dk_at dksJ21_compareTo_2_0 14 rfl rfl)
theorem dJ21_compareTo_2_17 : decode cJ21_compareTo_2 17 = .ok (.ireturn, 1) := dk_172 (dk_at dksJ21_compareTo_2_0 17 rfl rfl)
abbrev cJ21_checkOffset : ByteArray := prog_89_method_92_code
def yJ21_checkOffset : MethodName := ⟨RJ21, "checkOffset", "(I[B)V"⟩
def dkwJ21_checkOffset_0 : List UInt8 := [26, 43, 184, 0, 48, 184, 1, 161, 177]
abbrev dktJ21_checkOffset_0 : List UInt8 := dkwJ21_checkOffset_0 ++ []
theorem dksJ21_checkOffset_0 : cJ21_checkOffset.data.toList.drop 0 = dktJ21_checkOffset_0 := by decide +kernel
theorem dJ21_checkOffset_0 : decode cJ21_checkOffset 0 = .ok (.iload_n 0, 1) := dk_26 (dk_at dksJ21_checkOffset_0 0 rfl rfl)
theorem dJ21_checkOffset_1 : decode cJ21_checkOffset 1 = .ok (.aload_n 1, 1) := dk_43 (dk_at dksJ21_checkOffset_0 1 rfl rfl)
theorem dJ21_checkOffset_2 : decode cJ21_checkOffset 2 = .ok (.invokestatic 48, 3) := dk_184 0 48 (dk_at dksJ21_checkOffset_0 2 rfl rfl)
theorem dJ21_checkOffset_5 : decode cJ21_checkOffset 5 = .ok (.invokestatic 417, 3) := dk_184 1 161 (dk_at dksJ21_checkOffset_0 5 rfl rfl)
theorem dJ21_checkOffset_8 : decode cJ21_checkOffset 8 = .ok (.return_, 1) := dk_177 (dk_at dksJ21_checkOffset_0 8 rfl rfl)
abbrev cJ21_compareToLatin1_2 : ByteArray := prog_89_method_33_code
def yJ21_compareToLatin1_2 : MethodName := ⟨RJ21, "compareToLatin1", "([B[BII)I"⟩
def dkwJ21_compareToLatin1_2_0 : List UInt8 := [43, 42, 29, 28, 184, 0, 193, 116, 172]
abbrev dktJ21_compareToLatin1_2_0 : List UInt8 := dkwJ21_compareToLatin1_2_0 ++ []
theorem dksJ21_compareToLatin1_2_0 : cJ21_compareToLatin1_2.data.toList.drop 0 = dktJ21_compareToLatin1_2_0 := by decide +kernel
theorem dJ21_compareToLatin1_2_0 : decode cJ21_compareToLatin1_2 0 = .ok (.aload_n 1, 1) := dk_43 (dk_at dksJ21_compareToLatin1_2_0 0 rfl rfl)
theorem dJ21_compareToLatin1_2_1 : decode cJ21_compareToLatin1_2 1 = .ok (.aload_n 0, 1) := dk_42 (dk_at dksJ21_compareToLatin1_2_0 1 rfl rfl)
theorem dJ21_compareToLatin1_2_2 : decode cJ21_compareToLatin1_2 2 = .ok (.iload_n 3, 1) := dk_29 (dk_at dksJ21_compareToLatin1_2_0 2 rfl rfl)
theorem dJ21_compareToLatin1_2_3 : decode cJ21_compareToLatin1_2 3 = .ok (.iload_n 2, 1) := dk_28 (dk_at dksJ21_compareToLatin1_2_0 3 rfl rfl)
theorem dJ21_compareToLatin1_2_4 : decode cJ21_compareToLatin1_2 4 = .ok (.invokestatic 193, 3) := dk_184 0 193 (dk_at dksJ21_compareToLatin1_2_0 4 rfl rfl)
theorem dJ21_compareToLatin1_2_7 : decode cJ21_compareToLatin1_2 7 = .ok (.ineg, 1) := dk_116 (dk_at dksJ21_compareToLatin1_2_0 7 rfl rfl)
theorem dJ21_compareToLatin1_2_8 : decode cJ21_compareToLatin1_2 8 = .ok (.ireturn, 1) := dk_172 (dk_at dksJ21_compareToLatin1_2_0 8 rfl rfl)
abbrev cJ21_getChars_3 : ByteArray := prog_89_method_78_code
def yJ21_getChars_3 : MethodName := ⟨RJ21, "getChars", "(JII[B)I"⟩
def dkwJ21_getChars_3_1 : List UInt8 := [21, 5, 159, 0, 11, 187, 0, 52, 89, 183, 0, 66, 191, 21, 5, 172]
abbrev dktJ21_getChars_3_1 : List UInt8 := dkwJ21_getChars_3_1 ++ []
def dkwJ21_getChars_3_0 : List UInt8 := [28, 29, 25, 4, 184, 0, 96, 30, 29, 25, 4, 184, 1, 140, 54, 5, 178, 0, 44, 154, 0, 17, 28]
abbrev dktJ21_getChars_3_0 : List UInt8 := dkwJ21_getChars_3_0 ++ dktJ21_getChars_3_1
theorem dksJ21_getChars_3_0 : cJ21_getChars_3.data.toList.drop 0 = dktJ21_getChars_3_0 := by decide +kernel
theorem dksJ21_getChars_3_1 : cJ21_getChars_3.data.toList.drop 23 = dktJ21_getChars_3_1 := dk_seg dksJ21_getChars_3_0 23 rfl rfl
theorem dJ21_getChars_3_0 : decode cJ21_getChars_3 0 = .ok (.iload_n 2, 1) := dk_28 (dk_at dksJ21_getChars_3_0 0 rfl rfl)
theorem dJ21_getChars_3_1 : decode cJ21_getChars_3 1 = .ok (.iload_n 3, 1) := dk_29 (dk_at dksJ21_getChars_3_0 1 rfl rfl)
theorem dJ21_getChars_3_2 : decode cJ21_getChars_3 2 = .ok (.aload 4, 2) := dk_25 4 (dk_at dksJ21_getChars_3_0 2 rfl rfl)
theorem dJ21_getChars_3_4 : decode cJ21_getChars_3 4 = .ok (.invokestatic 96, 3) := dk_184 0 96 (dk_at dksJ21_getChars_3_0 4 rfl rfl)
theorem dJ21_getChars_3_7 : decode cJ21_getChars_3 7 = .ok (.lload_n 0, 1) := dk_30 (dk_at dksJ21_getChars_3_0 7 rfl rfl)
theorem dJ21_getChars_3_8 : decode cJ21_getChars_3 8 = .ok (.iload_n 3, 1) := dk_29 (dk_at dksJ21_getChars_3_0 8 rfl rfl)
theorem dJ21_getChars_3_9 : decode cJ21_getChars_3 9 = .ok (.aload 4, 2) := dk_25 4 (dk_at dksJ21_getChars_3_0 9 rfl rfl)
theorem dJ21_getChars_3_11 : decode cJ21_getChars_3 11 = .ok (.invokestatic 396, 3) := dk_184 1 140 (dk_at dksJ21_getChars_3_0 11 rfl rfl)
theorem dJ21_getChars_3_14 : decode cJ21_getChars_3 14 = .ok (.istore 5, 2) := dk_54 5 (dk_at dksJ21_getChars_3_0 14 rfl rfl)
theorem dJ21_getChars_3_16 : decode cJ21_getChars_3 16 = .ok (.getstatic 44, 3) := dk_178 0 44 (dk_at dksJ21_getChars_3_0 16 rfl rfl)
theorem dJ21_getChars_3_19 : decode cJ21_getChars_3 19 = .ok (.ifCond .ne 17, 3) := dk_154 0 17 (dk_at dksJ21_getChars_3_0 19 rfl rfl)
theorem dJ21_getChars_3_22 : decode cJ21_getChars_3 22 = .ok (.iload_n 2, 1) := dk_28 (dk_at dksJ21_getChars_3_0 22 rfl rfl)
theorem dJ21_getChars_3_23 : decode cJ21_getChars_3 23 = .ok (.iload 5, 2) := dk_21 5 (dk_at dksJ21_getChars_3_1 0 rfl rfl)
theorem dJ21_getChars_3_25 : decode cJ21_getChars_3 25 = .ok (.if_icmp .eq 11, 3) := dk_159 0 11 (dk_at dksJ21_getChars_3_1 2 rfl rfl)
theorem dJ21_getChars_3_28 : decode cJ21_getChars_3 28 = .ok (.new 52, 3) := dk_187 0 52 (dk_at dksJ21_getChars_3_1 5 rfl rfl)
theorem dJ21_getChars_3_31 : decode cJ21_getChars_3 31 = .ok (.dup, 1) := dk_89 (dk_at dksJ21_getChars_3_1 8 rfl rfl)
theorem dJ21_getChars_3_32 : decode cJ21_getChars_3 32 = .ok (.invokespecial 66, 3) := dk_183 0 66 (dk_at dksJ21_getChars_3_1 9 rfl rfl)
theorem dJ21_getChars_3_35 : decode cJ21_getChars_3 35 = .ok (.athrow, 1) := dk_191 (dk_at dksJ21_getChars_3_1 12 rfl rfl)
theorem dJ21_getChars_3_36 : decode cJ21_getChars_3 36 = .ok (.iload 5, 2) := dk_21 5 (dk_at dksJ21_getChars_3_1 13 rfl rfl)
theorem dJ21_getChars_3_38 : decode cJ21_getChars_3 38 = .ok (.ireturn, 1) := dk_172 (dk_at dksJ21_getChars_3_1 15 rfl rfl)
abbrev cJ21_getChars_4 : ByteArray := prog_89_method_90_code
def yJ21_getChars_4 : MethodName := ⟨RJ21, "getChars", "(JI[B)I"⟩
def dkwJ21_getChars_4_8 : List UInt8 := [184, 0, 111, 21, 8, 153, 0, 14, 45, 132, 7, 255, 21, 7, 16, 45, 184, 0, 111, 21, 7, 172]
abbrev dktJ21_getChars_4_8 : List UInt8 := dkwJ21_getChars_4_8 ++ []
def dkwJ21_getChars_4_7 : List UInt8 := [184, 0, 111, 21, 10, 16, 247, 162, 0, 19, 45, 132, 7, 255, 21, 7, 178, 1, 151, 21, 10, 116, 51]
abbrev dktJ21_getChars_4_7 : List UInt8 := dkwJ21_getChars_4_7 ++ dktJ21_getChars_4_8
def dkwJ21_getChars_4_6 : List UInt8 := [21, 6, 51, 184, 0, 111, 167, 255, 198, 45, 132, 7, 255, 21, 7, 178, 1, 147, 21, 10, 116, 51]
abbrev dktJ21_getChars_4_6 : List UInt8 := dkwJ21_getChars_4_6 ++ dktJ21_getChars_4_7
def dkwJ21_getChars_4_5 : List UInt8 := [45, 132, 7, 255, 21, 7, 178, 1, 147, 21, 6, 51, 184, 0, 111, 45, 132, 7, 255, 21, 7, 178, 1, 151]
abbrev dktJ21_getChars_4_5 : List UInt8 := dkwJ21_getChars_4_5 ++ dktJ21_getChars_4_6
def dkwJ21_getChars_4_4 : List UInt8 := [163, 0, 57, 21, 10, 16, 100, 108, 54, 9, 21, 9, 16, 100, 104, 21, 10, 100, 54, 6, 21, 9, 54, 10]
abbrev dktJ21_getChars_4_4 : List UInt8 := dkwJ21_getChars_4_4 ++ dktJ21_getChars_4_5
def dkwJ21_getChars_4_3 : List UInt8 := [21, 7, 178, 1, 151, 21, 6, 51, 184, 0, 111, 167, 255, 197, 30, 136, 54, 10, 21, 10, 16, 156]
abbrev dktJ21_getChars_4_3 : List UInt8 := dkwJ21_getChars_4_3 ++ dktJ21_getChars_4_4
def dkwJ21_getChars_4_2 : List UInt8 := [54, 6, 22, 4, 63, 45, 132, 7, 255, 21, 7, 178, 1, 147, 21, 6, 51, 184, 0, 111, 45, 132, 7, 255]
abbrev dktJ21_getChars_4_2 : List UInt8 := dkwJ21_getChars_4_2 ++ dktJ21_getChars_4_3
def dkwJ21_getChars_4_1 : List UInt8 := [30, 20, 1, 154, 148, 157, 0, 57, 30, 20, 1, 156, 109, 55, 4, 22, 4, 20, 1, 156, 105, 30, 101, 136]
abbrev dktJ21_getChars_4_1 : List UInt8 := dkwJ21_getChars_4_1 ++ dktJ21_getChars_4_2
def dkwJ21_getChars_4_0 : List UInt8 := [28, 54, 7, 30, 9, 148, 156, 0, 7, 4, 167, 0, 4, 3, 54, 8, 21, 8, 154, 0, 6, 30, 117, 63]
abbrev dktJ21_getChars_4_0 : List UInt8 := dkwJ21_getChars_4_0 ++ dktJ21_getChars_4_1
theorem dksJ21_getChars_4_0 : cJ21_getChars_4.data.toList.drop 0 = dktJ21_getChars_4_0 := by decide +kernel
theorem dksJ21_getChars_4_1 : cJ21_getChars_4.data.toList.drop 24 = dktJ21_getChars_4_1 := dk_seg dksJ21_getChars_4_0 24 rfl rfl
theorem dksJ21_getChars_4_2 : cJ21_getChars_4.data.toList.drop 48 = dktJ21_getChars_4_2 := dk_seg dksJ21_getChars_4_1 24 rfl rfl
theorem dksJ21_getChars_4_3 : cJ21_getChars_4.data.toList.drop 72 = dktJ21_getChars_4_3 := dk_seg dksJ21_getChars_4_2 24 rfl rfl
theorem dksJ21_getChars_4_4 : cJ21_getChars_4.data.toList.drop 94 = dktJ21_getChars_4_4 := dk_seg dksJ21_getChars_4_3 22 rfl rfl
theorem dksJ21_getChars_4_5 : cJ21_getChars_4.data.toList.drop 118 = dktJ21_getChars_4_5 := dk_seg dksJ21_getChars_4_4 24 rfl rfl
theorem dksJ21_getChars_4_6 : cJ21_getChars_4.data.toList.drop 142 = dktJ21_getChars_4_6 := dk_seg dksJ21_getChars_4_5 24 rfl rfl
theorem dksJ21_getChars_4_7 : cJ21_getChars_4.data.toList.drop 164 = dktJ21_getChars_4_7 := dk_seg dksJ21_getChars_4_6 22 rfl rfl
theorem dksJ21_getChars_4_8 : cJ21_getChars_4.data.toList.drop 187 = dktJ21_getChars_4_8 := dk_seg dksJ21_getChars_4_7 23 rfl rfl
theorem dJ21_getChars_4_0 : decode cJ21_getChars_4 0 = .ok (.iload_n 2, 1) := dk_28 (dk_at dksJ21_getChars_4_0 0 rfl rfl)
theorem dJ21_getChars_4_1 : decode cJ21_getChars_4 1 = .ok (.istore 7, 2) := dk_54 7 (dk_at dksJ21_getChars_4_0 1 rfl rfl)
theorem dJ21_getChars_4_3 : decode cJ21_getChars_4 3 = .ok (.lload_n 0, 1) := dk_30 (dk_at dksJ21_getChars_4_0 3 rfl rfl)
theorem dJ21_getChars_4_4 : decode cJ21_getChars_4 4 = .ok (.lconst 0, 1) := dk_9 (dk_at dksJ21_getChars_4_0 4 rfl rfl)
theorem dJ21_getChars_4_5 : decode cJ21_getChars_4 5 = .ok (.lcmp, 1) := dk_148 (dk_at dksJ21_getChars_4_0 5 rfl rfl)
theorem dJ21_getChars_4_6 : decode cJ21_getChars_4 6 = .ok (.ifCond .ge 7, 3) := dk_156 0 7 (dk_at dksJ21_getChars_4_0 6 rfl rfl)
theorem dJ21_getChars_4_9 : decode cJ21_getChars_4 9 = .ok (.iconst 1, 1) := dk_4 (dk_at dksJ21_getChars_4_0 9 rfl rfl)
theorem dJ21_getChars_4_10 : decode cJ21_getChars_4 10 = .ok (.goto 4, 3) := dk_167 0 4 (dk_at dksJ21_getChars_4_0 10 rfl rfl)
theorem dJ21_getChars_4_13 : decode cJ21_getChars_4 13 = .ok (.iconst 0, 1) := dk_3 (dk_at dksJ21_getChars_4_0 13 rfl rfl)
theorem dJ21_getChars_4_14 : decode cJ21_getChars_4 14 = .ok (.istore 8, 2) := dk_54 8 (dk_at dksJ21_getChars_4_0 14 rfl rfl)
theorem dJ21_getChars_4_16 : decode cJ21_getChars_4 16 = .ok (.iload 8, 2) := dk_21 8 (dk_at dksJ21_getChars_4_0 16 rfl rfl)
theorem dJ21_getChars_4_18 : decode cJ21_getChars_4 18 = .ok (.ifCond .ne 6, 3) := dk_154 0 6 (dk_at dksJ21_getChars_4_0 18 rfl rfl)
theorem dJ21_getChars_4_21 : decode cJ21_getChars_4 21 = .ok (.lload_n 0, 1) := dk_30 (dk_at dksJ21_getChars_4_0 21 rfl rfl)
theorem dJ21_getChars_4_22 : decode cJ21_getChars_4 22 = .ok (.lneg, 1) := dk_117 (dk_at dksJ21_getChars_4_0 22 rfl rfl)
theorem dJ21_getChars_4_23 : decode cJ21_getChars_4 23 = .ok (.lstore_n 0, 1) := dk_63 (dk_at dksJ21_getChars_4_0 23 rfl rfl)
theorem dJ21_getChars_4_24 : decode cJ21_getChars_4 24 = .ok (.lload_n 0, 1) := dk_30 (dk_at dksJ21_getChars_4_1 0 rfl rfl)
theorem dJ21_getChars_4_25 : decode cJ21_getChars_4 25 = .ok (.ldc2_w 410, 3) := dk_20 1 154 (dk_at dksJ21_getChars_4_1 1 rfl rfl)
theorem dJ21_getChars_4_28 : decode cJ21_getChars_4 28 = .ok (.lcmp, 1) := dk_148 (dk_at dksJ21_getChars_4_1 4 rfl rfl)
theorem dJ21_getChars_4_29 : decode cJ21_getChars_4 29 = .ok (.ifCond .gt 57, 3) := dk_157 0 57 (dk_at dksJ21_getChars_4_1 5 rfl rfl)
theorem dJ21_getChars_4_32 : decode cJ21_getChars_4 32 = .ok (.lload_n 0, 1) := dk_30 (dk_at dksJ21_getChars_4_1 8 rfl rfl)
theorem dJ21_getChars_4_33 : decode cJ21_getChars_4 33 = .ok (.ldc2_w 412, 3) := dk_20 1 156 (dk_at dksJ21_getChars_4_1 9 rfl rfl)
theorem dJ21_getChars_4_36 : decode cJ21_getChars_4 36 = .ok (.ldiv, 1) := dk_109 (dk_at dksJ21_getChars_4_1 12 rfl rfl)
theorem dJ21_getChars_4_37 : decode cJ21_getChars_4 37 = .ok (.lstore 4, 2) := dk_55 4 (dk_at dksJ21_getChars_4_1 13 rfl rfl)
theorem dJ21_getChars_4_39 : decode cJ21_getChars_4 39 = .ok (.lload 4, 2) := dk_22 4 (dk_at dksJ21_getChars_4_1 15 rfl rfl)
theorem dJ21_getChars_4_41 : decode cJ21_getChars_4 41 = .ok (.ldc2_w 412, 3) := dk_20 1 156 (dk_at dksJ21_getChars_4_1 17 rfl rfl)
theorem dJ21_getChars_4_44 : decode cJ21_getChars_4 44 = .ok (.lmul, 1) := dk_105 (dk_at dksJ21_getChars_4_1 20 rfl rfl)
theorem dJ21_getChars_4_45 : decode cJ21_getChars_4 45 = .ok (.lload_n 0, 1) := dk_30 (dk_at dksJ21_getChars_4_1 21 rfl rfl)
theorem dJ21_getChars_4_46 : decode cJ21_getChars_4 46 = .ok (.lsub, 1) := dk_101 (dk_at dksJ21_getChars_4_1 22 rfl rfl)
theorem dJ21_getChars_4_47 : decode cJ21_getChars_4 47 = .ok (.l2i, 1) := dk_136 (dk_at dksJ21_getChars_4_1 23 rfl rfl)
theorem dJ21_getChars_4_48 : decode cJ21_getChars_4 48 = .ok (.istore 6, 2) := dk_54 6 (dk_at dksJ21_getChars_4_2 0 rfl rfl)
theorem dJ21_getChars_4_50 : decode cJ21_getChars_4 50 = .ok (.lload 4, 2) := dk_22 4 (dk_at dksJ21_getChars_4_2 2 rfl rfl)
theorem dJ21_getChars_4_52 : decode cJ21_getChars_4 52 = .ok (.lstore_n 0, 1) := dk_63 (dk_at dksJ21_getChars_4_2 4 rfl rfl)
theorem dJ21_getChars_4_53 : decode cJ21_getChars_4 53 = .ok (.aload_n 3, 1) := dk_45 (dk_at dksJ21_getChars_4_2 5 rfl rfl)
theorem dJ21_getChars_4_54 : decode cJ21_getChars_4 54 = .ok (.iinc 7 (-1), 3) := dk_132 7 255 (dk_at dksJ21_getChars_4_2 6 rfl rfl)
theorem dJ21_getChars_4_57 : decode cJ21_getChars_4 57 = .ok (.iload 7, 2) := dk_21 7 (dk_at dksJ21_getChars_4_2 9 rfl rfl)
theorem dJ21_getChars_4_59 : decode cJ21_getChars_4 59 = .ok (.getstatic 403, 3) := dk_178 1 147 (dk_at dksJ21_getChars_4_2 11 rfl rfl)
theorem dJ21_getChars_4_62 : decode cJ21_getChars_4 62 = .ok (.iload 6, 2) := dk_21 6 (dk_at dksJ21_getChars_4_2 14 rfl rfl)
theorem dJ21_getChars_4_64 : decode cJ21_getChars_4 64 = .ok (.baload, 1) := dk_51 (dk_at dksJ21_getChars_4_2 16 rfl rfl)
theorem dJ21_getChars_4_65 : decode cJ21_getChars_4 65 = .ok (.invokestatic 111, 3) := dk_184 0 111 (dk_at dksJ21_getChars_4_2 17 rfl rfl)
theorem dJ21_getChars_4_68 : decode cJ21_getChars_4 68 = .ok (.aload_n 3, 1) := dk_45 (dk_at dksJ21_getChars_4_2 20 rfl rfl)
theorem dJ21_getChars_4_69 : decode cJ21_getChars_4 69 = .ok (.iinc 7 (-1), 3) := dk_132 7 255 (dk_at dksJ21_getChars_4_2 21 rfl rfl)
theorem dJ21_getChars_4_72 : decode cJ21_getChars_4 72 = .ok (.iload 7, 2) := dk_21 7 (dk_at dksJ21_getChars_4_3 0 rfl rfl)
theorem dJ21_getChars_4_74 : decode cJ21_getChars_4 74 = .ok (.getstatic 407, 3) := dk_178 1 151 (dk_at dksJ21_getChars_4_3 2 rfl rfl)
theorem dJ21_getChars_4_77 : decode cJ21_getChars_4 77 = .ok (.iload 6, 2) := dk_21 6 (dk_at dksJ21_getChars_4_3 5 rfl rfl)
theorem dJ21_getChars_4_79 : decode cJ21_getChars_4 79 = .ok (.baload, 1) := dk_51 (dk_at dksJ21_getChars_4_3 7 rfl rfl)
theorem dJ21_getChars_4_80 : decode cJ21_getChars_4 80 = .ok (.invokestatic 111, 3) := dk_184 0 111 (dk_at dksJ21_getChars_4_3 8 rfl rfl)
theorem dJ21_getChars_4_83 : decode cJ21_getChars_4 83 = .ok (.goto (-59), 3) := dk_167 255 197 (dk_at dksJ21_getChars_4_3 11 rfl rfl)
theorem dJ21_getChars_4_86 : decode cJ21_getChars_4 86 = .ok (.lload_n 0, 1) := dk_30 (dk_at dksJ21_getChars_4_3 14 rfl rfl)
theorem dJ21_getChars_4_87 : decode cJ21_getChars_4 87 = .ok (.l2i, 1) := dk_136 (dk_at dksJ21_getChars_4_3 15 rfl rfl)
theorem dJ21_getChars_4_88 : decode cJ21_getChars_4 88 = .ok (.istore 10, 2) := dk_54 10 (dk_at dksJ21_getChars_4_3 16 rfl rfl)
theorem dJ21_getChars_4_90 : decode cJ21_getChars_4 90 = .ok (.iload 10, 2) := dk_21 10 (dk_at dksJ21_getChars_4_3 18 rfl rfl)
theorem dJ21_getChars_4_92 : decode cJ21_getChars_4 92 = .ok (.bipush (-100), 2) := dk_16 156 (dk_at dksJ21_getChars_4_3 20 rfl rfl)
theorem dJ21_getChars_4_94 : decode cJ21_getChars_4 94 = .ok (.if_icmp .gt 57, 3) := dk_163 0 57 (dk_at dksJ21_getChars_4_4 0 rfl rfl)
theorem dJ21_getChars_4_97 : decode cJ21_getChars_4 97 = .ok (.iload 10, 2) := dk_21 10 (dk_at dksJ21_getChars_4_4 3 rfl rfl)
theorem dJ21_getChars_4_99 : decode cJ21_getChars_4 99 = .ok (.bipush 100, 2) := dk_16 100 (dk_at dksJ21_getChars_4_4 5 rfl rfl)
theorem dJ21_getChars_4_101 : decode cJ21_getChars_4 101 = .ok (.idiv, 1) := dk_108 (dk_at dksJ21_getChars_4_4 7 rfl rfl)
theorem dJ21_getChars_4_102 : decode cJ21_getChars_4 102 = .ok (.istore 9, 2) := dk_54 9 (dk_at dksJ21_getChars_4_4 8 rfl rfl)
theorem dJ21_getChars_4_104 : decode cJ21_getChars_4 104 = .ok (.iload 9, 2) := dk_21 9 (dk_at dksJ21_getChars_4_4 10 rfl rfl)
theorem dJ21_getChars_4_106 : decode cJ21_getChars_4 106 = .ok (.bipush 100, 2) := dk_16 100 (dk_at dksJ21_getChars_4_4 12 rfl rfl)
theorem dJ21_getChars_4_108 : decode cJ21_getChars_4 108 = .ok (.imul, 1) := dk_104 (dk_at dksJ21_getChars_4_4 14 rfl rfl)
theorem dJ21_getChars_4_109 : decode cJ21_getChars_4 109 = .ok (.iload 10, 2) := dk_21 10 (dk_at dksJ21_getChars_4_4 15 rfl rfl)
theorem dJ21_getChars_4_111 : decode cJ21_getChars_4 111 = .ok (.isub, 1) := dk_100 (dk_at dksJ21_getChars_4_4 17 rfl rfl)
theorem dJ21_getChars_4_112 : decode cJ21_getChars_4 112 = .ok (.istore 6, 2) := dk_54 6 (dk_at dksJ21_getChars_4_4 18 rfl rfl)
theorem dJ21_getChars_4_114 : decode cJ21_getChars_4 114 = .ok (.iload 9, 2) := dk_21 9 (dk_at dksJ21_getChars_4_4 20 rfl rfl)
theorem dJ21_getChars_4_116 : decode cJ21_getChars_4 116 = .ok (.istore 10, 2) := dk_54 10 (dk_at dksJ21_getChars_4_4 22 rfl rfl)
theorem dJ21_getChars_4_118 : decode cJ21_getChars_4 118 = .ok (.aload_n 3, 1) := dk_45 (dk_at dksJ21_getChars_4_5 0 rfl rfl)
theorem dJ21_getChars_4_119 : decode cJ21_getChars_4 119 = .ok (.iinc 7 (-1), 3) := dk_132 7 255 (dk_at dksJ21_getChars_4_5 1 rfl rfl)
theorem dJ21_getChars_4_122 : decode cJ21_getChars_4 122 = .ok (.iload 7, 2) := dk_21 7 (dk_at dksJ21_getChars_4_5 4 rfl rfl)
theorem dJ21_getChars_4_124 : decode cJ21_getChars_4 124 = .ok (.getstatic 403, 3) := dk_178 1 147 (dk_at dksJ21_getChars_4_5 6 rfl rfl)
theorem dJ21_getChars_4_127 : decode cJ21_getChars_4 127 = .ok (.iload 6, 2) := dk_21 6 (dk_at dksJ21_getChars_4_5 9 rfl rfl)
theorem dJ21_getChars_4_129 : decode cJ21_getChars_4 129 = .ok (.baload, 1) := dk_51 (dk_at dksJ21_getChars_4_5 11 rfl rfl)
theorem dJ21_getChars_4_130 : decode cJ21_getChars_4 130 = .ok (.invokestatic 111, 3) := dk_184 0 111 (dk_at dksJ21_getChars_4_5 12 rfl rfl)
theorem dJ21_getChars_4_133 : decode cJ21_getChars_4 133 = .ok (.aload_n 3, 1) := dk_45 (dk_at dksJ21_getChars_4_5 15 rfl rfl)
theorem dJ21_getChars_4_134 : decode cJ21_getChars_4 134 = .ok (.iinc 7 (-1), 3) := dk_132 7 255 (dk_at dksJ21_getChars_4_5 16 rfl rfl)
theorem dJ21_getChars_4_137 : decode cJ21_getChars_4 137 = .ok (.iload 7, 2) := dk_21 7 (dk_at dksJ21_getChars_4_5 19 rfl rfl)
theorem dJ21_getChars_4_139 : decode cJ21_getChars_4 139 = .ok (.getstatic 407, 3) := dk_178 1 151 (dk_at dksJ21_getChars_4_5 21 rfl rfl)
theorem dJ21_getChars_4_142 : decode cJ21_getChars_4 142 = .ok (.iload 6, 2) := dk_21 6 (dk_at dksJ21_getChars_4_6 0 rfl rfl)
theorem dJ21_getChars_4_144 : decode cJ21_getChars_4 144 = .ok (.baload, 1) := dk_51 (dk_at dksJ21_getChars_4_6 2 rfl rfl)
theorem dJ21_getChars_4_145 : decode cJ21_getChars_4 145 = .ok (.invokestatic 111, 3) := dk_184 0 111 (dk_at dksJ21_getChars_4_6 3 rfl rfl)
theorem dJ21_getChars_4_148 : decode cJ21_getChars_4 148 = .ok (.goto (-58), 3) := dk_167 255 198 (dk_at dksJ21_getChars_4_6 6 rfl rfl)
theorem dJ21_getChars_4_151 : decode cJ21_getChars_4 151 = .ok (.aload_n 3, 1) := dk_45 (dk_at dksJ21_getChars_4_6 9 rfl rfl)
theorem dJ21_getChars_4_152 : decode cJ21_getChars_4 152 = .ok (.iinc 7 (-1), 3) := dk_132 7 255 (dk_at dksJ21_getChars_4_6 10 rfl rfl)
theorem dJ21_getChars_4_155 : decode cJ21_getChars_4 155 = .ok (.iload 7, 2) := dk_21 7 (dk_at dksJ21_getChars_4_6 13 rfl rfl)
theorem dJ21_getChars_4_157 : decode cJ21_getChars_4 157 = .ok (.getstatic 403, 3) := dk_178 1 147 (dk_at dksJ21_getChars_4_6 15 rfl rfl)
theorem dJ21_getChars_4_160 : decode cJ21_getChars_4 160 = .ok (.iload 10, 2) := dk_21 10 (dk_at dksJ21_getChars_4_6 18 rfl rfl)
theorem dJ21_getChars_4_162 : decode cJ21_getChars_4 162 = .ok (.ineg, 1) := dk_116 (dk_at dksJ21_getChars_4_6 20 rfl rfl)
theorem dJ21_getChars_4_163 : decode cJ21_getChars_4 163 = .ok (.baload, 1) := dk_51 (dk_at dksJ21_getChars_4_6 21 rfl rfl)
theorem dJ21_getChars_4_164 : decode cJ21_getChars_4 164 = .ok (.invokestatic 111, 3) := dk_184 0 111 (dk_at dksJ21_getChars_4_7 0 rfl rfl)
theorem dJ21_getChars_4_167 : decode cJ21_getChars_4 167 = .ok (.iload 10, 2) := dk_21 10 (dk_at dksJ21_getChars_4_7 3 rfl rfl)
theorem dJ21_getChars_4_169 : decode cJ21_getChars_4 169 = .ok (.bipush (-9), 2) := dk_16 247 (dk_at dksJ21_getChars_4_7 5 rfl rfl)
theorem dJ21_getChars_4_171 : decode cJ21_getChars_4 171 = .ok (.if_icmp .ge 19, 3) := dk_162 0 19 (dk_at dksJ21_getChars_4_7 7 rfl rfl)
theorem dJ21_getChars_4_174 : decode cJ21_getChars_4 174 = .ok (.aload_n 3, 1) := dk_45 (dk_at dksJ21_getChars_4_7 10 rfl rfl)
theorem dJ21_getChars_4_175 : decode cJ21_getChars_4 175 = .ok (.iinc 7 (-1), 3) := dk_132 7 255 (dk_at dksJ21_getChars_4_7 11 rfl rfl)
theorem dJ21_getChars_4_178 : decode cJ21_getChars_4 178 = .ok (.iload 7, 2) := dk_21 7 (dk_at dksJ21_getChars_4_7 14 rfl rfl)
theorem dJ21_getChars_4_180 : decode cJ21_getChars_4 180 = .ok (.getstatic 407, 3) := dk_178 1 151 (dk_at dksJ21_getChars_4_7 16 rfl rfl)
theorem dJ21_getChars_4_183 : decode cJ21_getChars_4 183 = .ok (.iload 10, 2) := dk_21 10 (dk_at dksJ21_getChars_4_7 19 rfl rfl)
theorem dJ21_getChars_4_185 : decode cJ21_getChars_4 185 = .ok (.ineg, 1) := dk_116 (dk_at dksJ21_getChars_4_7 21 rfl rfl)
theorem dJ21_getChars_4_186 : decode cJ21_getChars_4 186 = .ok (.baload, 1) := dk_51 (dk_at dksJ21_getChars_4_7 22 rfl rfl)
theorem dJ21_getChars_4_187 : decode cJ21_getChars_4 187 = .ok (.invokestatic 111, 3) := dk_184 0 111 (dk_at dksJ21_getChars_4_8 0 rfl rfl)
theorem dJ21_getChars_4_190 : decode cJ21_getChars_4 190 = .ok (.iload 8, 2) := dk_21 8 (dk_at dksJ21_getChars_4_8 3 rfl rfl)
theorem dJ21_getChars_4_192 : decode cJ21_getChars_4 192 = .ok (.ifCond .eq 14, 3) := dk_153 0 14 (dk_at dksJ21_getChars_4_8 5 rfl rfl)
theorem dJ21_getChars_4_195 : decode cJ21_getChars_4 195 = .ok (.aload_n 3, 1) := dk_45 (dk_at dksJ21_getChars_4_8 8 rfl rfl)
theorem dJ21_getChars_4_196 : decode cJ21_getChars_4 196 = .ok (.iinc 7 (-1), 3) := dk_132 7 255 (dk_at dksJ21_getChars_4_8 9 rfl rfl)
theorem dJ21_getChars_4_199 : decode cJ21_getChars_4 199 = .ok (.iload 7, 2) := dk_21 7 (dk_at dksJ21_getChars_4_8 12 rfl rfl)
theorem dJ21_getChars_4_201 : decode cJ21_getChars_4 201 = .ok (.bipush 45, 2) := dk_16 45 (dk_at dksJ21_getChars_4_8 14 rfl rfl)
theorem dJ21_getChars_4_203 : decode cJ21_getChars_4 203 = .ok (.invokestatic 111, 3) := dk_184 0 111 (dk_at dksJ21_getChars_4_8 16 rfl rfl)
theorem dJ21_getChars_4_206 : decode cJ21_getChars_4 206 = .ok (.iload 7, 2) := dk_21 7 (dk_at dksJ21_getChars_4_8 19 rfl rfl)
theorem dJ21_getChars_4_208 : decode cJ21_getChars_4 208 = .ok (.ireturn, 1) := dk_172 (dk_at dksJ21_getChars_4_8 21 rfl rfl)
theorem q472 : (Jvm.Cond.initialized "java/lang/StringUTF16") ∈ lw_all := lw_g (lw_at lw_m1 80 rfl) rfl
theorem q2635 : (Jvm.Cond.static ({ cls := "java/lang/StringUTF16", name := "newBytesFor", desc := "(I)[B" } : Jvm.MethodName)) ∈ lw_all := lw_g (lw_at lw_m10 83 rfl) rfl
theorem q2636 : (Jvm.Cond.code ({ cls := "java/lang/StringUTF16", name := "newBytesFor", desc := "(I)[B" } : Jvm.MethodName) prog_89_method_2_code (1 : Nat) (Option.some (Jvm.ClassFile.FieldType.array Jvm.ClassFile.FieldType.byte))) ∈ lw_all := lw_g (lw_at lw_m10 84 rfl) rfl
theorem q2637 : (Jvm.Cond.methodLink "java/lang/StringUTF16" (11 : Nat) ({ cls := "java/lang/StringUTF16", name := "newBytesLength", desc := "(I)I" } : Jvm.MethodName)) ∈ lw_all := lw_g (lw_at lw_m10 85 rfl) rfl
theorem q2638 : (Jvm.Cond.static ({ cls := "java/lang/StringUTF16", name := "newBytesLength", desc := "(I)I" } : Jvm.MethodName)) ∈ lw_all := lw_g (lw_at lw_m10 86 rfl) rfl
theorem q2639 : (Jvm.Cond.code ({ cls := "java/lang/StringUTF16", name := "newBytesLength", desc := "(I)I" } : Jvm.MethodName) prog_89_method_3_code (1 : Nat) (Option.some Jvm.ClassFile.FieldType.int)) ∈ lw_all := lw_g (lw_at lw_m10 87 rfl) rfl
theorem q2640 : (Jvm.Cond.constant "java/lang/StringUTF16" (20 : Nat) (1073741823 : Int32)) ∈ lw_all := lw_g (lw_at lw_m10 88 rfl) rfl
theorem q2695 : (Jvm.Cond.static ({ cls := "java/lang/StringUTF16", name := "inflate", desc := "([BI[BII)V" } : Jvm.MethodName)) ∈ lw_all := lw_g (lw_at lw_m10 143 rfl) rfl
theorem q2696 : (Jvm.Cond.code ({ cls := "java/lang/StringUTF16", name := "inflate", desc := "([BI[BII)V" } : Jvm.MethodName) prog_89_method_86_code (6 : Nat) (Option.none : Option Jvm.ClassFile.FieldType)) ∈ lw_all := lw_g (lw_at lw_m10 144 rfl) rfl
theorem q2697 : (Jvm.Cond.methodLink "java/lang/StringUTF16" (173 : Nat) ({ cls := "java/lang/StringUTF16", name := "checkBoundsOffCount", desc := "(II[B)V" } : Jvm.MethodName)) ∈ lw_all := lw_g (lw_at lw_m10 145 rfl) rfl
theorem q2698 : (Jvm.Cond.static ({ cls := "java/lang/StringUTF16", name := "checkBoundsOffCount", desc := "(II[B)V" } : Jvm.MethodName)) ∈ lw_all := lw_g (lw_at lw_m10 146 rfl) rfl
theorem q2699 : (Jvm.Cond.code ({ cls := "java/lang/StringUTF16", name := "checkBoundsOffCount", desc := "(II[B)V" } : Jvm.MethodName) prog_89_method_94_code (3 : Nat) (Option.none : Option Jvm.ClassFile.FieldType)) ∈ lw_all := lw_g (lw_at lw_m10 147 rfl) rfl
theorem q2700 : (Jvm.Cond.methodLink "java/lang/StringUTF16" (48 : Nat) ({ cls := "java/lang/StringUTF16", name := "length", desc := "([B)I" } : Jvm.MethodName)) ∈ lw_all := lw_g (lw_at lw_m10 148 rfl) rfl
theorem q2701 : (Jvm.Cond.static ({ cls := "java/lang/StringUTF16", name := "length", desc := "([B)I" } : Jvm.MethodName)) ∈ lw_all := lw_g (lw_at lw_m10 149 rfl) rfl
theorem q2702 : (Jvm.Cond.code ({ cls := "java/lang/StringUTF16", name := "length", desc := "([B)I" } : Jvm.MethodName) prog_89_method_6_code (1 : Nat) (Option.some Jvm.ClassFile.FieldType.int)) ∈ lw_all := lw_g (lw_at lw_m10 150 rfl) rfl
theorem q2703 : (Jvm.Cond.methodLink "java/lang/StringUTF16" (419 : Nat) ({ cls := "java/lang/String", name := "checkBoundsOffCount", desc := "(III)I" } : Jvm.MethodName)) ∈ lw_all := lw_g (lw_at lw_m10 151 rfl) rfl
theorem q2711 : (Jvm.Cond.methodLink "java/lang/StringUTF16" (111 : Nat) ({ cls := "java/lang/StringUTF16", name := "putChar", desc := "([BII)V" } : Jvm.MethodName)) ∈ lw_all := lw_g (lw_at lw_m10 159 rfl) rfl
theorem q2712 : (Jvm.Cond.static ({ cls := "java/lang/StringUTF16", name := "putChar", desc := "([BII)V" } : Jvm.MethodName)) ∈ lw_all := lw_g (lw_at lw_m10 160 rfl) rfl
theorem q2713 : (Jvm.Cond.code ({ cls := "java/lang/StringUTF16", name := "putChar", desc := "([BII)V" } : Jvm.MethodName) prog_89_method_4_code (3 : Nat) (Option.none : Option Jvm.ClassFile.FieldType)) ∈ lw_all := lw_g (lw_at lw_m10 161 rfl) rfl
theorem q2714 : (Jvm.Cond.fieldLink "java/lang/StringUTF16" (44 : Nat) "java/lang/StringUTF16" "$assertionsDisabled" "Z") ∈ lw_all := lw_g (lw_at lw_m10 162 rfl) rfl
theorem q2715 : (Jvm.Cond.laysStatic "java/lang/StringUTF16" "$assertionsDisabled" "Z") ∈ lw_tbl := lw_at lw_m10 163 rfl
theorem q2716 : (Jvm.Cond.fieldLink "java/lang/StringUTF16" (59 : Nat) "java/lang/StringUTF16" "HI_BYTE_SHIFT" "I") ∈ lw_all := lw_g (lw_at lw_m10 164 rfl) rfl
theorem q2717 : (Jvm.Cond.laysStatic "java/lang/StringUTF16" "HI_BYTE_SHIFT" "I") ∈ lw_tbl := lw_at lw_m10 165 rfl
theorem q2718 : (Jvm.Cond.fieldLink "java/lang/StringUTF16" (63 : Nat) "java/lang/StringUTF16" "LO_BYTE_SHIFT" "I") ∈ lw_all := lw_g (lw_at lw_m10 166 rfl) rfl
theorem q2719 : (Jvm.Cond.laysStatic "java/lang/StringUTF16" "LO_BYTE_SHIFT" "I") ∈ lw_tbl := lw_at lw_m10 167 rfl
theorem q2721 : (Jvm.Cond.static ({ cls := "java/lang/StringUTF16", name := "putCharSB", desc := "([BII)V" } : Jvm.MethodName)) ∈ lw_all := lw_g (lw_at lw_m10 169 rfl) rfl
theorem q2722 : (Jvm.Cond.code ({ cls := "java/lang/StringUTF16", name := "putCharSB", desc := "([BII)V" } : Jvm.MethodName) prog_89_method_71_code (3 : Nat) (Option.none : Option Jvm.ClassFile.FieldType)) ∈ lw_all := lw_g (lw_at lw_m10 170 rfl) rfl
theorem q2723 : (Jvm.Cond.methodLink "java/lang/StringUTF16" (67 : Nat) ({ cls := "java/lang/StringUTF16", name := "checkIndex", desc := "(I[B)V" } : Jvm.MethodName)) ∈ lw_all := lw_g (lw_at lw_m10 171 rfl) rfl
theorem q2724 : (Jvm.Cond.static ({ cls := "java/lang/StringUTF16", name := "checkIndex", desc := "(I[B)V" } : Jvm.MethodName)) ∈ lw_all := lw_g (lw_at lw_m10 172 rfl) rfl
theorem q2725 : (Jvm.Cond.code ({ cls := "java/lang/StringUTF16", name := "checkIndex", desc := "(I[B)V" } : Jvm.MethodName) prog_89_method_91_code (2 : Nat) (Option.none : Option Jvm.ClassFile.FieldType)) ∈ lw_all := lw_g (lw_at lw_m10 173 rfl) rfl
theorem q2726 : (Jvm.Cond.methodLink "java/lang/StringUTF16" (414 : Nat) ({ cls := "java/lang/String", name := "checkIndex", desc := "(II)V" } : Jvm.MethodName)) ∈ lw_all := lw_g (lw_at lw_m10 174 rfl) rfl
theorem q2830 : (Jvm.Cond.static ({ cls := "java/lang/StringUTF16", name := "getChars", desc := "(III[B)I" } : Jvm.MethodName)) ∈ lw_all := lw_g (lw_at lw_m11 38 rfl) rfl
theorem q2831 : (Jvm.Cond.code ({ cls := "java/lang/StringUTF16", name := "getChars", desc := "(III[B)I" } : Jvm.MethodName) prog_89_method_77_code (5 : Nat) (Option.some Jvm.ClassFile.FieldType.int)) ∈ lw_all := lw_g (lw_at lw_m11 39 rfl) rfl
theorem q2832 : (Jvm.Cond.methodLink "java/lang/StringUTF16" (96 : Nat) ({ cls := "java/lang/StringUTF16", name := "checkBoundsBeginEnd", desc := "(II[B)V" } : Jvm.MethodName)) ∈ lw_all := lw_g (lw_at lw_m11 40 rfl) rfl
theorem q2833 : (Jvm.Cond.static ({ cls := "java/lang/StringUTF16", name := "checkBoundsBeginEnd", desc := "(II[B)V" } : Jvm.MethodName)) ∈ lw_all := lw_g (lw_at lw_m11 41 rfl) rfl
theorem q2834 : (Jvm.Cond.code ({ cls := "java/lang/StringUTF16", name := "checkBoundsBeginEnd", desc := "(II[B)V" } : Jvm.MethodName) prog_89_method_93_code (3 : Nat) (Option.none : Option Jvm.ClassFile.FieldType)) ∈ lw_all := lw_g (lw_at lw_m11 42 rfl) rfl
theorem q2835 : (Jvm.Cond.methodLink "java/lang/StringUTF16" (241 : Nat) ({ cls := "java/lang/String", name := "checkBoundsBeginEnd", desc := "(III)V" } : Jvm.MethodName)) ∈ lw_all := lw_g (lw_at lw_m11 43 rfl) rfl
theorem q2841 : (Jvm.Cond.methodLink "java/lang/StringUTF16" (393 : Nat) ({ cls := "java/lang/StringUTF16", name := "getChars", desc := "(II[B)I" } : Jvm.MethodName)) ∈ lw_all := lw_g (lw_at lw_m11 49 rfl) rfl
theorem q2842 : (Jvm.Cond.static ({ cls := "java/lang/StringUTF16", name := "getChars", desc := "(II[B)I" } : Jvm.MethodName)) ∈ lw_all := lw_g (lw_at lw_m11 50 rfl) rfl
theorem q2843 : (Jvm.Cond.code ({ cls := "java/lang/StringUTF16", name := "getChars", desc := "(II[B)I" } : Jvm.MethodName) prog_89_method_89_code (7 : Nat) (Option.some Jvm.ClassFile.FieldType.int)) ∈ lw_all := lw_g (lw_at lw_m11 51 rfl) rfl
theorem q2844 : (Jvm.Cond.fieldLink "java/lang/StringUTF16" (403 : Nat) "java/lang/Integer" "DigitOnes" "[B") ∈ lw_all := lw_g (lw_at lw_m11 52 rfl) rfl
theorem q2845 : (Jvm.Cond.fieldLink "java/lang/StringUTF16" (407 : Nat) "java/lang/Integer" "DigitTens" "[B") ∈ lw_all := lw_g (lw_at lw_m11 53 rfl) rfl
theorem q2859 : (Jvm.Cond.static ({ cls := "java/lang/StringUTF16", name := "putCharsAt", desc := "([BICCCC)I" } : Jvm.MethodName)) ∈ lw_all := lw_g (lw_at lw_m11 67 rfl) rfl
theorem q2860 : (Jvm.Cond.code ({ cls := "java/lang/StringUTF16", name := "putCharsAt", desc := "([BICCCC)I" } : Jvm.MethodName) prog_89_method_81_code (7 : Nat) (Option.some Jvm.ClassFile.FieldType.int)) ∈ lw_all := lw_g (lw_at lw_m11 68 rfl) rfl
theorem q2912 : (Jvm.Cond.static ({ cls := "java/lang/StringUTF16", name := "compress", desc := "([BII)[B" } : Jvm.MethodName)) ∈ lw_all := lw_g (lw_at lw_m11 120 rfl) rfl
theorem q2913 : (Jvm.Cond.code ({ cls := "java/lang/StringUTF16", name := "compress", desc := "([BII)[B" } : Jvm.MethodName) prog_89_method_17_code (6 : Nat) (Option.some (Jvm.ClassFile.FieldType.array Jvm.ClassFile.FieldType.byte))) ∈ lw_all := lw_g (lw_at lw_m11 121 rfl) rfl
theorem q2914 : (Jvm.Cond.methodLink "java/lang/StringUTF16" (123 : Nat) ({ cls := "java/lang/StringUTF16", name := "compress", desc := "([BI[BII)I" } : Jvm.MethodName)) ∈ lw_all := lw_g (lw_at lw_m11 122 rfl) rfl
theorem q2915 : (Jvm.Cond.static ({ cls := "java/lang/StringUTF16", name := "compress", desc := "([BI[BII)I" } : Jvm.MethodName)) ∈ lw_all := lw_g (lw_at lw_m11 123 rfl) rfl
theorem q2916 : (Jvm.Cond.code ({ cls := "java/lang/StringUTF16", name := "compress", desc := "([BI[BII)I" } : Jvm.MethodName) prog_89_method_22_code (7 : Nat) (Option.some Jvm.ClassFile.FieldType.int)) ∈ lw_all := lw_g (lw_at lw_m11 124 rfl) rfl
theorem q2917 : (Jvm.Cond.methodLink "java/lang/StringUTF16" (71 : Nat) ({ cls := "java/lang/StringUTF16", name := "getChar", desc := "([BI)C" } : Jvm.MethodName)) ∈ lw_all := lw_g (lw_at lw_m11 125 rfl) rfl
theorem q2918 : (Jvm.Cond.static ({ cls := "java/lang/StringUTF16", name := "getChar", desc := "([BI)C" } : Jvm.MethodName)) ∈ lw_all := lw_g (lw_at lw_m11 126 rfl) rfl
theorem q2919 : (Jvm.Cond.code ({ cls := "java/lang/StringUTF16", name := "getChar", desc := "([BI)C" } : Jvm.MethodName) prog_89_method_5_code (2 : Nat) (Option.some Jvm.ClassFile.FieldType.char)) ∈ lw_all := lw_g (lw_at lw_m11 127 rfl) rfl
theorem q2920 : (Jvm.Cond.methodLink "java/lang/StringUTF16" (126 : Nat) ({ cls := "java/util/Arrays", name := "copyOfRange", desc := "([BII)[B" } : Jvm.MethodName)) ∈ lw_all := lw_g (lw_at lw_m11 128 rfl) rfl
theorem q2922 : (Jvm.Cond.static ({ cls := "java/lang/StringUTF16", name := "coderFromArrayLen", desc := "([BI)B" } : Jvm.MethodName)) ∈ lw_all := lw_g (lw_at lw_m11 130 rfl) rfl
theorem q2923 : (Jvm.Cond.code ({ cls := "java/lang/StringUTF16", name := "coderFromArrayLen", desc := "([BI)B" } : Jvm.MethodName) prog_89_method_15_code (2 : Nat) (Option.some Jvm.ClassFile.FieldType.byte)) ∈ lw_all := lw_g (lw_at lw_m11 131 rfl) rfl
theorem q3223 : (Jvm.Cond.static ({ cls := "java/lang/StringUTF16", name := "charAt", desc := "([BI)C" } : Jvm.MethodName)) ∈ lw_all := lw_g (lw_at lw_m12 191 rfl) rfl
theorem q3224 : (Jvm.Cond.code ({ cls := "java/lang/StringUTF16", name := "charAt", desc := "([BI)C" } : Jvm.MethodName) prog_89_method_83_code (2 : Nat) (Option.some Jvm.ClassFile.FieldType.char)) ∈ lw_all := lw_g (lw_at lw_m12 192 rfl) rfl
theorem q3730 : (Jvm.Cond.static ({ cls := "java/lang/StringUTF16", name := "hashCode", desc := "([B)I" } : Jvm.MethodName)) ∈ lw_all := lw_g (lw_at lw_m14 218 rfl) rfl
theorem q3731 : (Jvm.Cond.code ({ cls := "java/lang/StringUTF16", name := "hashCode", desc := "([B)I" } : Jvm.MethodName) prog_89_method_39_code (1 : Nat) (Option.some Jvm.ClassFile.FieldType.int)) ∈ lw_all := lw_g (lw_at lw_m14 219 rfl) rfl
theorem q3732 : (Jvm.Cond.methodLink "java/lang/StringUTF16" (220 : Nat) ({ cls := "jdk/internal/util/ArraysSupport", name := "vectorizedHashCode", desc := "(Ljava/lang/Object;IIII)I" } : Jvm.MethodName)) ∈ lw_all := lw_g (lw_at lw_m14 220 rfl) rfl
theorem q3986 : (Jvm.Cond.static ({ cls := "java/lang/StringUTF16", name := "compareTo", desc := "([B[B)I" } : Jvm.MethodName)) ∈ lw_all := lw_g (lw_at lw_m15 234 rfl) rfl
theorem q3987 : (Jvm.Cond.code ({ cls := "java/lang/StringUTF16", name := "compareTo", desc := "([B[B)I" } : Jvm.MethodName) prog_89_method_29_code (4 : Nat) (Option.some Jvm.ClassFile.FieldType.int)) ∈ lw_all := lw_g (lw_at lw_m15 235 rfl) rfl
theorem q3988 : (Jvm.Cond.methodLink "java/lang/StringUTF16" (176 : Nat) ({ cls := "java/lang/StringUTF16", name := "compareValues", desc := "([B[BII)I" } : Jvm.MethodName)) ∈ lw_all := lw_g (lw_at lw_m15 236 rfl) rfl
theorem q3989 : (Jvm.Cond.static ({ cls := "java/lang/StringUTF16", name := "compareValues", desc := "([B[BII)I" } : Jvm.MethodName)) ∈ lw_all := lw_g (lw_at lw_m15 237 rfl) rfl
theorem q3990 : (Jvm.Cond.code ({ cls := "java/lang/StringUTF16", name := "compareValues", desc := "([B[BII)I" } : Jvm.MethodName) prog_89_method_31_code (8 : Nat) (Option.some Jvm.ClassFile.FieldType.int)) ∈ lw_all := lw_g (lw_at lw_m15 238 rfl) rfl
theorem q3991 : (Jvm.Cond.methodLink "java/lang/StringUTF16" (183 : Nat) ({ cls := "java/lang/Math", name := "min", desc := "(II)I" } : Jvm.MethodName)) ∈ lw_all := lw_g (lw_at lw_m15 239 rfl) rfl
theorem q4004 : (Jvm.Cond.static ({ cls := "java/lang/StringUTF16", name := "compareToLatin1", desc := "([B[B)I" } : Jvm.MethodName)) ∈ lw_all := lw_g (lw_at lw_m16 12 rfl) rfl
theorem q4005 : (Jvm.Cond.code ({ cls := "java/lang/StringUTF16", name := "compareToLatin1", desc := "([B[B)I" } : Jvm.MethodName) prog_89_method_32_code (2 : Nat) (Option.some Jvm.ClassFile.FieldType.int)) ∈ lw_all := lw_g (lw_at lw_m16 13 rfl) rfl
theorem q4006 : (Jvm.Cond.methodLink "java/lang/StringUTF16" (189 : Nat) ({ cls := "java/lang/StringLatin1", name := "compareToUTF16", desc := "([B[B)I" } : Jvm.MethodName)) ∈ lw_all := lw_g (lw_at lw_m16 14 rfl) rfl
theorem q4023 : (Jvm.Cond.static ({ cls := "java/lang/StringUTF16", name := "compareTo", desc := "([B[BII)I" } : Jvm.MethodName)) ∈ lw_all := lw_g (lw_at lw_m16 31 rfl) rfl
theorem q4024 : (Jvm.Cond.code ({ cls := "java/lang/StringUTF16", name := "compareTo", desc := "([B[BII)I" } : Jvm.MethodName) prog_89_method_30_code (4 : Nat) (Option.some Jvm.ClassFile.FieldType.int)) ∈ lw_all := lw_g (lw_at lw_m16 32 rfl) rfl
theorem q4025 : (Jvm.Cond.methodLink "java/lang/StringUTF16" (180 : Nat) ({ cls := "java/lang/StringUTF16", name := "checkOffset", desc := "(I[B)V" } : Jvm.MethodName)) ∈ lw_all := lw_g (lw_at lw_m16 33 rfl) rfl
theorem q4026 : (Jvm.Cond.static ({ cls := "java/lang/StringUTF16", name := "checkOffset", desc := "(I[B)V" } : Jvm.MethodName)) ∈ lw_all := lw_g (lw_at lw_m16 34 rfl) rfl
theorem q4027 : (Jvm.Cond.code ({ cls := "java/lang/StringUTF16", name := "checkOffset", desc := "(I[B)V" } : Jvm.MethodName) prog_89_method_92_code (2 : Nat) (Option.none : Option Jvm.ClassFile.FieldType)) ∈ lw_all := lw_g (lw_at lw_m16 35 rfl) rfl
theorem q4028 : (Jvm.Cond.methodLink "java/lang/StringUTF16" (417 : Nat) ({ cls := "java/lang/String", name := "checkOffset", desc := "(II)V" } : Jvm.MethodName)) ∈ lw_all := lw_g (lw_at lw_m16 36 rfl) rfl
theorem q4036 : (Jvm.Cond.static ({ cls := "java/lang/StringUTF16", name := "compareToLatin1", desc := "([B[BII)I" } : Jvm.MethodName)) ∈ lw_all := lw_g (lw_at lw_m16 44 rfl) rfl
theorem q4037 : (Jvm.Cond.code ({ cls := "java/lang/StringUTF16", name := "compareToLatin1", desc := "([B[BII)I" } : Jvm.MethodName) prog_89_method_33_code (4 : Nat) (Option.some Jvm.ClassFile.FieldType.int)) ∈ lw_all := lw_g (lw_at lw_m16 45 rfl) rfl
theorem q4038 : (Jvm.Cond.methodLink "java/lang/StringUTF16" (193 : Nat) ({ cls := "java/lang/StringLatin1", name := "compareToUTF16", desc := "([B[BII)I" } : Jvm.MethodName)) ∈ lw_all := lw_g (lw_at lw_m16 46 rfl) rfl
theorem q6557 : (Jvm.Cond.static ({ cls := "java/lang/StringUTF16", name := "getChars", desc := "(JII[B)I" } : Jvm.MethodName)) ∈ lw_all := lw_g (lw_at lw_m26 165 rfl) rfl
theorem q6558 : (Jvm.Cond.code ({ cls := "java/lang/StringUTF16", name := "getChars", desc := "(JII[B)I" } : Jvm.MethodName) prog_89_method_78_code (6 : Nat) (Option.some Jvm.ClassFile.FieldType.int)) ∈ lw_all := lw_g (lw_at lw_m26 166 rfl) rfl
theorem q6559 : (Jvm.Cond.methodLink "java/lang/StringUTF16" (396 : Nat) ({ cls := "java/lang/StringUTF16", name := "getChars", desc := "(JI[B)I" } : Jvm.MethodName)) ∈ lw_all := lw_g (lw_at lw_m26 167 rfl) rfl
theorem q6560 : (Jvm.Cond.static ({ cls := "java/lang/StringUTF16", name := "getChars", desc := "(JI[B)I" } : Jvm.MethodName)) ∈ lw_all := lw_g (lw_at lw_m26 168 rfl) rfl
theorem q6561 : (Jvm.Cond.code ({ cls := "java/lang/StringUTF16", name := "getChars", desc := "(JI[B)I" } : Jvm.MethodName) prog_89_method_90_code (11 : Nat) (Option.some Jvm.ClassFile.FieldType.int)) ∈ lw_all := lw_g (lw_at lw_m26 169 rfl) rfl
theorem q6562 : (Jvm.Cond.constantLong "java/lang/StringUTF16" (410 : Nat) (-2147483648 : Int64)) ∈ lw_all := lw_g (lw_at lw_m26 170 rfl) rfl
theorem q6563 : (Jvm.Cond.constantLong "java/lang/StringUTF16" (412 : Nat) (100 : Int64)) ∈ lw_all := lw_g (lw_at lw_m26 171 rfl) rfl
