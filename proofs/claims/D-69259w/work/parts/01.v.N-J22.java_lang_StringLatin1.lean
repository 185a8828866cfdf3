/-! java/lang/StringLatin1 -/
set_option maxRecDepth 100000
def RJ22 : String := "java/lang/StringLatin1"
abbrev cJ22_canEncode : ByteArray := prog_88_method_3_code
def yJ22_canEncode : MethodName := ⟨RJ22, "canEncode", "(C)Z"⟩
def dkwJ22_canEncode_0 : List UInt8 := [26, 17, 0, 255, 163, 0, 7, 4, 167, 0, 4, 3, 172]
abbrev dktJ22_canEncode_0 : List UInt8 := dkwJ22_canEncode_0 ++ []
theorem dksJ22_canEncode_0 : cJ22_canEncode.data.toList.drop 0 = dktJ22_canEncode_0 := by decide +kernel
theorem dJ22_canEncode_0 : decode cJ22_canEncode 0 = .ok (.iload_n 0, 1) := dk_26 (dk_at dksJ22_canEncode_0 0 rfl rfl)
theorem dJ22_canEncode_1 : decode cJ22_canEncode 1 = .ok (.sipush 255, 3) := dk_17 0 255 (dk_at dksJ22_canEncode_0 1 rfl rfl)
theorem dJ22_canEncode_4 : decode cJ22_canEncode 4 = .ok (.if_icmp .gt 7, 3) := dk_163 0 7 (dk_at dksJ22_canEncode_0 4 rfl rfl)
theorem dJ22_canEncode_7 : decode cJ22_canEncode 7 = .ok (.iconst 1, 1) := dk_4 (dk_at dksJ22_canEncode_0 7 rfl rfl)
theorem dJ22_canEncode_8 : decode cJ22_canEncode 8 = .ok (.goto 4, 3) := dk_167 0 4 (dk_at dksJ22_canEncode_0 8 rfl rfl)
theorem dJ22_canEncode_11 : decode cJ22_canEncode 11 = .ok (.iconst 0, 1) := dk_3 (dk_at dksJ22_canEncode_0 11 rfl rfl)
theorem dJ22_canEncode_12 : decode cJ22_canEncode 12 = .ok (.ireturn, 1) := dk_172 (dk_at dksJ22_canEncode_0 12 rfl rfl)
abbrev cJ22_inflate : ByteArray := prog_88_method_50_code
def yJ22_inflate : MethodName := ⟨RJ22, "inflate", "([BI[BII)V"⟩
def dkwJ22_inflate_0 : List UInt8 := [42, 27, 44, 29, 21, 4, 184, 0, 240, 177]
abbrev dktJ22_inflate_0 : List UInt8 := dkwJ22_inflate_0 ++ []
theorem dksJ22_inflate_0 : cJ22_inflate.data.toList.drop 0 = dktJ22_inflate_0 := by decide +kernel
theorem dJ22_inflate_0 : decode cJ22_inflate 0 = .ok (.aload_n 0, 1) := dk_42 (dk_at dksJ22_inflate_0 0 rfl rfl)
theorem dJ22_inflate_1 : decode cJ22_inflate 1 = .ok (.iload_n 1, 1) := dk_27 (dk_at dksJ22_inflate_0 1 rfl rfl)
theorem dJ22_inflate_2 : decode cJ22_inflate 2 = .ok (.aload_n 2, 1) := dk_44 (dk_at dksJ22_inflate_0 2 rfl rfl)
theorem dJ22_inflate_3 : decode cJ22_inflate 3 = .ok (.iload_n 3, 1) := dk_29 (dk_at dksJ22_inflate_0 3 rfl rfl)
theorem dJ22_inflate_4 : decode cJ22_inflate 4 = .ok (.iload 4, 2) := dk_21 4 (dk_at dksJ22_inflate_0 4 rfl rfl)
theorem dJ22_inflate_6 : decode cJ22_inflate 6 = .ok (.invokestatic 240, 3) := dk_184 0 240 (dk_at dksJ22_inflate_0 6 rfl rfl)
theorem dJ22_inflate_9 : decode cJ22_inflate 9 = .ok (.return_, 1) := dk_177 (dk_at dksJ22_inflate_0 9 rfl rfl)
abbrev cJ22_equals : ByteArray := prog_88_method_13_code
def yJ22_equals : MethodName := ⟨RJ22, "equals", "([B[B)Z"⟩
def dkwJ22_equals_1 : List UInt8 := [3, 172, 132, 2, 1, 167, 255, 236, 4, 172, 3, 172]
abbrev dktJ22_equals_1 : List UInt8 := dkwJ22_equals_1 ++ []
def dkwJ22_equals_0 : List UInt8 := [42, 190, 43, 190, 160, 0, 30, 3, 61, 28, 42, 190, 162, 0, 20, 42, 28, 51, 43, 28, 51, 159, 0, 5]
abbrev dktJ22_equals_0 : List UInt8 := dkwJ22_equals_0 ++ dktJ22_equals_1
theorem dksJ22_equals_0 : cJ22_equals.data.toList.drop 0 = dktJ22_equals_0 := by decide +kernel
theorem dksJ22_equals_1 : cJ22_equals.data.toList.drop 24 = dktJ22_equals_1 := dk_seg dksJ22_equals_0 24 rfl rfl
theorem dJ22_equals_0 : decode cJ22_equals 0 = .ok (.aload_n 0, 1) := dk_42 (dk_at dksJ22_equals_0 0 rfl rfl)
theorem dJ22_equals_1 : decode cJ22_equals 1 = .ok (.arraylength, 1) := dk_190 (dk_at dksJ22_equals_0 1 rfl rfl)
theorem dJ22_equals_2 : decode cJ22_equals 2 = .ok (.aload_n 1, 1) := dk_43 (dk_at dksJ22_equals_0 2 rfl rfl)
theorem dJ22_equals_3 : decode cJ22_equals 3 = .ok (.arraylength, 1) := dk_190 (dk_at dksJ22_equals_0 3 rfl rfl)
theorem dJ22_equals_4 : decode cJ22_equals 4 = .ok (.if_icmp .ne 30, 3) := dk_160 0 30 (dk_at dksJ22_equals_0 4 rfl rfl)
theorem dJ22_equals_7 : decode cJ22_equals 7 = .ok (.iconst 0, 1) := dk_3 (dk_at dksJ22_equals_0 7 rfl rfl)
theorem dJ22_equals_8 : decode cJ22_equals 8 = .ok (.istore_n 2, 1) := dk_61 (dk_at dksJ22_equals_0 8 rfl rfl)
theorem dJ22_equals_9 : decode cJ22_equals 9 = .ok (.iload_n 2, 1) := dk_28 (dk_at dksJ22_equals_0 9 rfl rfl)
theorem dJ22_equals_10 : decode cJ22_equals 10 = .ok (.aload_n 0, 1) := dk_42 (dk_at dksJ22_equals_0 10 rfl rfl)
theorem dJ22_equals_11 : decode cJ22_equals 11 = .ok (.arraylength, 1) := dk_190 (dk_at dksJ22_equals_0 11 rfl rfl)
theorem dJ22_equals_12 : decode cJ22_equals 12 = .ok (.if_icmp .ge 20, 3) := dk_162 0 20 (dk_at dksJ22_equals_0 12 rfl rfl)
theorem dJ22_equals_15 : decode cJ22_equals 15 = .ok (.aload_n 0, 1) := dk_42 (dk_at dksJ22_equals_0 15 rfl rfl)
theorem dJ22_equals_16 : decode cJ22_equals 16 = .ok (.iload_n 2, 1) := dk_28 (dk_at dksJ22_equals_0 16 rfl rfl)
theorem dJ22_equals_17 : decode cJ22_equals 17 = .ok (.baload, 1) := dk_51 (dk_at dksJ22_equals_0 17 rfl rfl)
theorem dJ22_equals_18 : decode cJ22_equals 18 = .ok (.aload_n 1, 1) := dk_43 (dk_at dksJ22_equals_0 18 rfl rfl)
theorem dJ22_equals_19 : decode cJ22_equals 19 = .ok (.iload_n 2, 1) := dk_28 (dk_at dksJ22_equals_0 19 rfl rfl)
theorem dJ22_equals_20 : decode cJ22_equals 20 = .ok (.baload, 1) := dk_51 (dk_at dksJ22_equals_0 20 rfl rfl)
theorem dJ22_equals_21 : decode cJ22_equals 21 = .ok (.if_icmp .eq 5, 3) := dk_159 0 5 (dk_at dksJ22_equals_0 21 rfl rfl)
theorem dJ22_equals_24 : decode cJ22_equals 24 = .ok (.iconst 0, 1) := dk_3 (dk_at dksJ22_equals_1 0 rfl rfl)
theorem dJ22_equals_25 : decode cJ22_equals 25 = .ok (.ireturn, 1) := dk_172 (dk_at dksJ22_equals_1 1 rfl rfl)
theorem dJ22_equals_26 : decode cJ22_equals 26 = .ok (.iinc 2 1, 3) := dk_132 2 1 (dk_at dksJ22_equals_1 2 rfl rfl)
theorem dJ22_equals_29 : decode cJ22_equals 29 = .ok (.goto (-20), 3) := dk_167 255 236 (dk_at dksJ22_equals_1 5 rfl rfl)
theorem dJ22_equals_32 : decode cJ22_equals 32 = .ok (.iconst 1, 1) := dk_4 (dk_at dksJ22_equals_1 8 rfl rfl)
theorem dJ22_equals_33 : decode cJ22_equals 33 = .ok (.ireturn, 1) := dk_172 (dk_at dksJ22_equals_1 9 rfl rfl)
theorem dJ22_equals_34 : decode cJ22_equals 34 = .ok (.iconst 0, 1) := dk_3 (dk_at dksJ22_equals_1 10 rfl rfl)
theorem dJ22_equals_35 : decode cJ22_equals 35 = .ok (.ireturn, 1) := dk_172 (dk_at dksJ22_equals_1 11 rfl rfl)
abbrev cJ22_charAt : ByteArray := prog_88_method_2_code
def yJ22_charAt : MethodName := ⟨RJ22, "charAt", "([BI)C"⟩
def dkwJ22_charAt_0 : List UInt8 := [27, 42, 190, 184, 0, 9, 42, 27, 51, 17, 0, 255, 126, 146, 172]
abbrev dktJ22_charAt_0 : List UInt8 := dkwJ22_charAt_0 ++ []
theorem dksJ22_charAt_0 : cJ22_charAt.data.toList.drop 0 = dktJ22_charAt_0 := by decide +kernel
theorem dJ22_charAt_0 : decode cJ22_charAt 0 = .ok (.iload_n 1, 1) := dk_27 (dk_at dksJ22_charAt_0 0 rfl rfl)
theorem dJ22_charAt_1 : decode cJ22_charAt 1 = .ok (.aload_n 0, 1) := dk_42 (dk_at dksJ22_charAt_0 1 rfl rfl)
theorem dJ22_charAt_2 : decode cJ22_charAt 2 = .ok (.arraylength, 1) := dk_190 (dk_at dksJ22_charAt_0 2 rfl rfl)
theorem dJ22_charAt_3 : decode cJ22_charAt 3 = .ok (.invokestatic 9, 3) := dk_184 0 9 (dk_at dksJ22_charAt_0 3 rfl rfl)
theorem dJ22_charAt_6 : decode cJ22_charAt 6 = .ok (.aload_n 0, 1) := dk_42 (dk_at dksJ22_charAt_0 6 rfl rfl)
theorem dJ22_charAt_7 : decode cJ22_charAt 7 = .ok (.iload_n 1, 1) := dk_27 (dk_at dksJ22_charAt_0 7 rfl rfl)
theorem dJ22_charAt_8 : decode cJ22_charAt 8 = .ok (.baload, 1) := dk_51 (dk_at dksJ22_charAt_0 8 rfl rfl)
theorem dJ22_charAt_9 : decode cJ22_charAt 9 = .ok (.sipush 255, 3) := dk_17 0 255 (dk_at dksJ22_charAt_0 9 rfl rfl)
theorem dJ22_charAt_12 : decode cJ22_charAt 12 = .ok (.iand, 1) := dk_126 (dk_at dksJ22_charAt_0 12 rfl rfl)
theorem dJ22_charAt_13 : decode cJ22_charAt 13 = .ok (.i2c, 1) := dk_146 (dk_at dksJ22_charAt_0 13 rfl rfl)
theorem dJ22_charAt_14 : decode cJ22_charAt 14 = .ok (.ireturn, 1) := dk_172 (dk_at dksJ22_charAt_0 14 rfl rfl)
abbrev cJ22_hashCode : ByteArray := prog_88_method_21_code
def yJ22_hashCode : MethodName := ⟨RJ22, "hashCode", "([B)I"⟩
def dkwJ22_hashCode_2 : List UInt8 := [3, 167, 0, 22, 42, 3, 51, 17, 0, 255, 126, 167, 0, 12, 42, 3, 42, 190, 3, 7, 184, 0, 84, 172]
abbrev dktJ22_hashCode_2 : List UInt8 := dkwJ22_hashCode_2 ++ []
def dkwJ22_hashCode_1 : List UInt8 := [171, 0, 0, 0, 0, 40, 0, 0, 0, 2, 0, 0, 0, 0, 0, 0, 0, 26, 0, 0, 0, 1, 0, 0, 0, 30]
abbrev dktJ22_hashCode_1 : List UInt8 := dkwJ22_hashCode_1 ++ dktJ22_hashCode_2
def dkwJ22_hashCode_0 : List UInt8 := [42, 190]
abbrev dktJ22_hashCode_0 : List UInt8 := dkwJ22_hashCode_0 ++ dktJ22_hashCode_1
theorem dksJ22_hashCode_0 : cJ22_hashCode.data.toList.drop 0 = dktJ22_hashCode_0 := by decide +kernel
theorem dksJ22_hashCode_1 : cJ22_hashCode.data.toList.drop 2 = dktJ22_hashCode_1 := dk_seg dksJ22_hashCode_0 2 rfl rfl
theorem dksJ22_hashCode_2 : cJ22_hashCode.data.toList.drop 28 = dktJ22_hashCode_2 := dk_seg dksJ22_hashCode_1 26 rfl rfl
theorem dJ22_hashCode_0 : decode cJ22_hashCode 0 = .ok (.aload_n 0, 1) := dk_42 (dk_at dksJ22_hashCode_0 0 rfl rfl)
theorem dJ22_hashCode_1 : decode cJ22_hashCode 1 = .ok (.arraylength, 1) := dk_190 (dk_at dksJ22_hashCode_0 1 rfl rfl)
theorem dJ22_hashCode_2 : decode cJ22_hashCode 2 = .ok (.lookupswitch 40 #[(0, 26), (1, 30)], 26) := by decide +kernel
theorem dJ22_hashCode_28 : decode cJ22_hashCode 28 = .ok (.iconst 0, 1) := dk_3 (dk_at dksJ22_hashCode_2 0 rfl rfl)
theorem dJ22_hashCode_29 : decode cJ22_hashCode 29 = .ok (.goto 22, 3) := dk_167 0 22 (dk_at dksJ22_hashCode_2 1 rfl rfl)
theorem dJ22_hashCode_32 : decode cJ22_hashCode 32 = .ok (.aload_n 0, 1) := dk_42 (dk_at dksJ22_hashCode_2 4 rfl rfl)
theorem dJ22_hashCode_33 : decode cJ22_hashCode 33 = .ok (.iconst 0, 1) := dk_3 (dk_at dksJ22_hashCode_2 5 rfl rfl)
theorem dJ22_hashCode_34 : decode cJ22_hashCode 34 = .ok (.baload, 1) := dk_51 (dk_at dksJ22_hashCode_2 6 rfl rfl)
theorem dJ22_hashCode_35 : decode cJ22_hashCode 35 = .ok (.sipush 255, 3) := dk_17 0 255 (dk_at dksJ22_hashCode_2 7 rfl rfl)
theorem dJ22_hashCode_38 : decode cJ22_hashCode 38 = .ok (.iand, 1) := dk_126 (dk_at dksJ22_hashCode_2 10 rfl rfl)
theorem dJ22_hashCode_39 : decode cJ22_hashCode 39 = .ok (.goto 12, 3) := dk_167 0 12 (dk_at dksJ22_hashCode_2 11 rfl rfl)
theorem dJ22_hashCode_42 : decode cJ22_hashCode 42 = .ok (.aload_n 0, 1) := dk_42 (dk_at dksJ22_hashCode_2 14 rfl rfl)
theorem dJ22_hashCode_43 : decode cJ22_hashCode 43 = .ok (.iconst 0, 1) := dk_3 (dk_at dksJ22_hashCode_2 15 rfl rfl)
theorem dJ22_hashCode_44 : decode cJ22_hashCode 44 = .ok (.aload_n 0, 1) := dk_42 (dk_at dksJ22_hashCode_2 16 rfl rfl)
theorem dJ22_hashCode_45 : decode cJ22_hashCode 45 = .ok (.arraylength, 1) := dk_190 (dk_at dksJ22_hashCode_2 17 rfl rfl)
theorem dJ22_hashCode_46 : decode cJ22_hashCode 46 = .ok (.iconst 0, 1) := dk_3 (dk_at dksJ22_hashCode_2 18 rfl rfl)
theorem dJ22_hashCode_47 : decode cJ22_hashCode 47 = .ok (.iconst 4, 1) := dk_7 (dk_at dksJ22_hashCode_2 19 rfl rfl)
theorem dJ22_hashCode_48 : decode cJ22_hashCode 48 = .ok (.invokestatic 84, 3) := dk_184 0 84 (dk_at dksJ22_hashCode_2 20 rfl rfl)
theorem dJ22_hashCode_51 : decode cJ22_hashCode 51 = .ok (.ireturn, 1) := dk_172 (dk_at dksJ22_hashCode_2 23 rfl rfl)
abbrev cJ22_compareTo : ByteArray := prog_88_method_14_code
def yJ22_compareTo : MethodName := ⟨RJ22, "compareTo", "([B[B)I"⟩
def dkwJ22_compareTo_0 : List UInt8 := [42, 190, 61, 43, 190, 62, 42, 43, 28, 29, 184, 0, 34, 172]
abbrev dktJ22_compareTo_0 : List UInt8 := dkwJ22_compareTo_0 ++ []
theorem dksJ22_compareTo_0 : cJ22_compareTo.data.toList.drop 0 = dktJ22_compareTo_0 := by decide +kernel
theorem dJ22_compareTo_0 : decode cJ22_compareTo 0 = .ok (.aload_n 0, 1) := dk_42 (dk_at dksJ22_compareTo_0 0 rfl rfl)
theorem dJ22_compareTo_1 : decode cJ22_compareTo 1 = .ok (.arraylength, 1) := dk_190 (dk_at dksJ22_compareTo_0 1 rfl rfl)
theorem dJ22_compareTo_2 : decode cJ22_compareTo 2 = .ok (.istore_n 2, 1) := dk_61 (dk_at dksJ22_compareTo_0 2 rfl rfl)
theorem dJ22_compareTo_3 : decode cJ22_compareTo 3 = .ok (.aload_n 1, 1) := dk_43 (dk_at dksJ22_compareTo_0 3 rfl rfl)
theorem dJ22_compareTo_4 : decode cJ22_compareTo 4 = .ok (.arraylength, 1) := dk_190 (dk_at dksJ22_compareTo_0 4 rfl rfl)
theorem dJ22_compareTo_5 : decode cJ22_compareTo 5 = .ok (.istore_n 3, 1) := dk_62 (dk_at dksJ22_compareTo_0 5 rfl rfl)
theorem dJ22_compareTo_6 : decode cJ22_compareTo 6 = .ok (.aload_n 0, 1) := dk_42 (dk_at dksJ22_compareTo_0 6 rfl rfl)
theorem dJ22_compareTo_7 : decode cJ22_compareTo 7 = .ok (.aload_n 1, 1) := dk_43 (dk_at dksJ22_compareTo_0 7 rfl rfl)
theorem dJ22_compareTo_8 : decode cJ22_compareTo 8 = .ok (.iload_n 2, 1) := dk_28 (dk_at dksJ22_compareTo_0 8 rfl rfl)
theorem dJ22_compareTo_9 : decode cJ22_compareTo 9 = .ok (.iload_n 3, 1) := dk_29 (dk_at dksJ22_compareTo_0 9 rfl rfl)
theorem dJ22_compareTo_10 : decode cJ22_compareTo 10 = .ok (.invokestatic 34, 3) := dk_184 0 34 (dk_at dksJ22_compareTo_0 10 rfl rfl)
theorem dJ22_compareTo_13 : decode cJ22_compareTo 13 = .ok (.ireturn, 1) := dk_172 (dk_at dksJ22_compareTo_0 13 rfl rfl)
abbrev cJ22_compareTo_2 : ByteArray := prog_88_method_15_code
def yJ22_compareTo_2 : MethodName := ⟨RJ22, "compareTo", "([B[BII)I"⟩
def dkwJ22_compareTo_2_1 : List UInt8 := [167, 0, 16, 42, 21, 5, 184, 0, 50, 43, 21, 5, 184, 0, 50, 100, 172]
abbrev dktJ22_compareTo_2_1 : List UInt8 := dkwJ22_compareTo_2_1 ++ []
def dkwJ22_compareTo_2_0 : List UInt8 := [28, 29, 184, 0, 38, 54, 4, 42, 43, 21, 4, 184, 0, 44, 54, 5, 21, 5, 156, 0, 9, 28, 29, 100]
abbrev dktJ22_compareTo_2_0 : List UInt8 := dkwJ22_compareTo_2_0 ++ dktJ22_compareTo_2_1
theorem dksJ22_compareTo_2_0 : cJ22_compareTo_2.data.toList.drop 0 = dktJ22_compareTo_2_0 := by decide +kernel
theorem dksJ22_compareTo_2_1 : cJ22_compareTo_2.data.toList.drop 24 = dktJ22_compareTo_2_1 := dk_seg dksJ22_compareTo_2_0 24 rfl rfl
theorem dJ22_compareTo_2_0 : decode cJ22_compareTo_2 0 = .ok (.iload_n 2, 1) := dk_28 (dk_at dksJ22_compareTo_2_0 0 rfl rfl)
theorem dJ22_compareTo_2_1 : decode cJ22_compareTo_2 1 = .ok (.iload_n 3, 1) := dk_29 (dk_at dksJ22_compareTo_2_0 1 rfl rfl)
theorem dJ22_compareTo_2_2 : decode cJ22_compareTo_2 2 = .ok (.invokestatic 38, 3) := dk_184 0 38 (dk_at dksJ22_compareTo_2_0 2 rfl rfl)
theorem dJ22_compareTo_2_5 : decode cJ22_compareTo_2 5 = .ok (.istore 4, 2) := dk_54 4 (dk_at dksJ22_compareTo_2_0 5 rfl rfl)
theorem dJ22_compareTo_2_7 : decode cJ22_compareTo_2 7 = .ok (.aload_n 0, 1) := dk_42 (dk_at dksJ22_compareTo_2_0 7 rfl rfl)
theorem dJ22_compareTo_2_8 : decode cJ22_compareTo_2 8 = .ok (.aload_n 1, 1) := dk_43 (dk_at dksJ22_compareTo_2_0 8 rfl rfl)
theorem dJ22_compareTo_2_9 : decode cJ22_compareTo_2 9 = .ok (.iload 4, 2) := dk_21 4 (dk_at dksJ22_compareTo_2_0 9 rfl rfl)
theorem dJ22_compareTo_2_11 : decode cJ22_compareTo_2 11 = .ok (.invokestatic 44, 3) := dk_184 0 44 (dk_at dksJ22_compareTo_2_0 11 rfl rfl)
theorem dJ22_compareTo_2_14 : decode cJ22_compareTo_2 14 = .ok (.istore 5, 2) := dk_54 5 (dk_at dksJ22_compareTo_2_0 14 rfl rfl)
theorem dJ22_compareTo_2_16 : decode cJ22_compareTo_2 16 = .ok (.iload 5, 2) := dk_21 5 (dk_at dksJ22_compareTo_2_0 16 rfl rfl)
theorem dJ22_compareTo_2_18 : decode cJ22_compareTo_2 18 = .ok (.ifCond .ge 9, 3) := dk_156 0 9 (dk_at dksJ22_compareTo_2_0 18 rfl rfl)
theorem dJ22_compareTo_2_21 : decode cJ22_compareTo_2 21 = .ok (.iload_n 2, 1) := dk_28 (dk_at dksJ22_compareTo_2_0 21 rfl rfl)
theorem dJ22_compareTo_2_22 : decode cJ22_compareTo_2 22 = .ok (.iload_n 3, 1) := dk_29 (dk_at dksJ22_compareTo_2_0 22 rfl rfl)
theorem dJ22_compareTo_2_23 : decode cJ22_compareTo_2 23 = .ok (.isub, 1) := dk_100 (dk_at dksJ22_compareTo_2_0 23 rfl rfl)
theorem dJ22_compareTo_2_24 : decode cJ22_compareTo_2 24 = .ok (.goto 16, 3) := dk_167 0 16 (dk_at dksJ22_compareTo_2_1 0 rfl rfl)
theorem dJ22_compareTo_2_27 : decode cJ22_compareTo_2 27 = .ok (.aload_n 0, 1) := dk_42 (dk_at dksJ22_compareTo_2_1 3 rfl rfl)
theorem dJ22_compareTo_2_28 : decode cJ22_compareTo_2 28 = .ok (.iload 5, 2) := dk_21 5 (dk_at dksJ22_compareTo_2_1 4 rfl rfl)
theorem dJ22_compareTo_2_30 : decode cJ22_compareTo_2 30 = .ok (.invokestatic 50, 3) := dk_184 0 50 (dk_at dksJ22_compareTo_2_1 6 rfl rfl)
theorem dJ22_compareTo_2_33 : decode cJ22_compareTo_2 33 = .ok (.aload_n 1, 1) := dk_43 (dk_at dksJ22_compareTo_2_1 9 rfl rfl)
theorem dJ22_compareTo_2_34 : decode cJ22_compareTo_2 34 = .ok (.iload 5, 2) := dk_21 5 (dk_at dksJ22_compareTo_2_1 10 rfl rfl)
theorem dJ22_compareTo_2_36 : decode cJ22_compareTo_2 36 = .ok (.invokestatic 50, 3) := dk_184 0 50 (dk_at dksJ22_compareTo_2_1 12 rfl rfl)
theorem dJ22_compareTo_2_39 : decode cJ22_compareTo_2 39 = .ok (.isub, 1) := dk_100 (dk_at dksJ22_compareTo_2_1 15 rfl rfl)
theorem dJ22_compareTo_2_40 : decode cJ22_compareTo_2 40 = .ok (.ireturn, 1) := dk_172 (dk_at dksJ22_compareTo_2_1 16 rfl rfl)
abbrev cJ22_getChar : ByteArray := prog_88_method_44_code
def yJ22_getChar : MethodName := ⟨RJ22, "getChar", "([BI)C"⟩
def dkwJ22_getChar_0 : List UInt8 := [42, 27, 51, 17, 0, 255, 126, 146, 172]
abbrev dktJ22_getChar_0 : List UInt8 := dkwJ22_getChar_0 ++ []
theorem dksJ22_getChar_0 : cJ22_getChar.data.toList.drop 0 = dktJ22_getChar_0 := by decide +kernel
theorem dJ22_getChar_0 : decode cJ22_getChar 0 = .ok (.aload_n 0, 1) := dk_42 (dk_at dksJ22_getChar_0 0 rfl rfl)
theorem dJ22_getChar_1 : decode cJ22_getChar 1 = .ok (.iload_n 1, 1) := dk_27 (dk_at dksJ22_getChar_0 1 rfl rfl)
theorem dJ22_getChar_2 : decode cJ22_getChar 2 = .ok (.baload, 1) := dk_51 (dk_at dksJ22_getChar_0 2 rfl rfl)
theorem dJ22_getChar_3 : decode cJ22_getChar 3 = .ok (.sipush 255, 3) := dk_17 0 255 (dk_at dksJ22_getChar_0 3 rfl rfl)
theorem dJ22_getChar_6 : decode cJ22_getChar 6 = .ok (.iand, 1) := dk_126 (dk_at dksJ22_getChar_0 6 rfl rfl)
theorem dJ22_getChar_7 : decode cJ22_getChar 7 = .ok (.i2c, 1) := dk_146 (dk_at dksJ22_getChar_0 7 rfl rfl)
theorem dJ22_getChar_8 : decode cJ22_getChar 8 = .ok (.ireturn, 1) := dk_172 (dk_at dksJ22_getChar_0 8 rfl rfl)
abbrev cJ22_compareToUTF16 : ByteArray := prog_88_method_16_code
def yJ22_compareToUTF16 : MethodName := ⟨RJ22, "compareToUTF16", "([B[B)I"⟩
def dkwJ22_compareToUTF16_0 : List UInt8 := [42, 184, 0, 54, 61, 43, 184, 0, 58, 62, 42, 43, 28, 29, 184, 0, 59, 172]
abbrev dktJ22_compareToUTF16_0 : List UInt8 := dkwJ22_compareToUTF16_0 ++ []
theorem dksJ22_compareToUTF16_0 : cJ22_compareToUTF16.data.toList.drop 0 = dktJ22_compareToUTF16_0 := by decide +kernel
theorem dJ22_compareToUTF16_0 : decode cJ22_compareToUTF16 0 = .ok (.aload_n 0, 1) := dk_42 (dk_at dksJ22_compareToUTF16_0 0 rfl rfl)
theorem dJ22_compareToUTF16_1 : decode cJ22_compareToUTF16 1 = .ok (.invokestatic 54, 3) := dk_184 0 54 (dk_at dksJ22_compareToUTF16_0 1 rfl rfl)
theorem dJ22_compareToUTF16_4 : decode cJ22_compareToUTF16 4 = .ok (.istore_n 2, 1) := dk_61 (dk_at dksJ22_compareToUTF16_0 4 rfl rfl)
theorem dJ22_compareToUTF16_5 : decode cJ22_compareToUTF16 5 = .ok (.aload_n 1, 1) := dk_43 (dk_at dksJ22_compareToUTF16_0 5 rfl rfl)
theorem dJ22_compareToUTF16_6 : decode cJ22_compareToUTF16 6 = .ok (.invokestatic 58, 3) := dk_184 0 58 (dk_at dksJ22_compareToUTF16_0 6 rfl rfl)
theorem dJ22_compareToUTF16_9 : decode cJ22_compareToUTF16 9 = .ok (.istore_n 3, 1) := dk_62 (dk_at dksJ22_compareToUTF16_0 9 rfl rfl)
theorem dJ22_compareToUTF16_10 : decode cJ22_compareToUTF16 10 = .ok (.aload_n 0, 1) := dk_42 (dk_at dksJ22_compareToUTF16_0 10 rfl rfl)
theorem dJ22_compareToUTF16_11 : decode cJ22_compareToUTF16 11 = .ok (.aload_n 1, 1) := dk_43 (dk_at dksJ22_compareToUTF16_0 11 rfl rfl)
theorem dJ22_compareToUTF16_12 : decode cJ22_compareToUTF16 12 = .ok (.iload_n 2, 1) := dk_28 (dk_at dksJ22_compareToUTF16_0 12 rfl rfl)
theorem dJ22_compareToUTF16_13 : decode cJ22_compareToUTF16 13 = .ok (.iload_n 3, 1) := dk_29 (dk_at dksJ22_compareToUTF16_0 13 rfl rfl)
theorem dJ22_compareToUTF16_14 : decode cJ22_compareToUTF16 14 = .ok (.invokestatic 59, 3) := dk_184 0 59 (dk_at dksJ22_compareToUTF16_0 14 rfl rfl)
theorem dJ22_compareToUTF16_17 : decode cJ22_compareToUTF16 17 = .ok (.ireturn, 1) := dk_172 (dk_at dksJ22_compareToUTF16_0 17 rfl rfl)
abbrev cJ22_length : ByteArray := prog_88_method_5_code
def yJ22_length : MethodName := ⟨RJ22, "length", "([B)I"⟩
theorem dJ22_length_0 : decode cJ22_length 0 = .ok (.aload_n 0, 1) := by decide +kernel
theorem dJ22_length_1 : decode cJ22_length 1 = .ok (.arraylength, 1) := by decide +kernel
theorem dJ22_length_2 : decode cJ22_length 2 = .ok (.ireturn, 1) := by decide +kernel
abbrev cJ22_compareToUTF16Values : ByteArray := prog_88_method_18_code
def yJ22_compareToUTF16Values : MethodName := ⟨RJ22, "compareToUTF16Values", "([B[BII)I"⟩
def dkwJ22_compareToUTF16Values_2 : List UInt8 := [132, 5, 1, 167, 255, 217, 28, 29, 100, 172]
abbrev dktJ22_compareToUTF16Values_2 : List UInt8 := dkwJ22_compareToUTF16Values_2 ++ []
def dkwJ22_compareToUTF16Values_1 : List UInt8 := [54, 6, 43, 21, 5, 184, 0, 65, 54, 7, 21, 6, 21, 7, 159, 0, 9, 21, 6, 21, 7, 100, 172]
abbrev dktJ22_compareToUTF16Values_1 : List UInt8 := dkwJ22_compareToUTF16Values_1 ++ dktJ22_compareToUTF16Values_2
def dkwJ22_compareToUTF16Values_0 : List UInt8 := [28, 29, 184, 0, 38, 54, 4, 3, 54, 5, 21, 5, 21, 4, 162, 0, 38, 42, 21, 5, 184, 0, 50]
abbrev dktJ22_compareToUTF16Values_0 : List UInt8 := dkwJ22_compareToUTF16Values_0 ++ dktJ22_compareToUTF16Values_1
theorem dksJ22_compareToUTF16Values_0 : cJ22_compareToUTF16Values.data.toList.drop 0 = dktJ22_compareToUTF16Values_0 := by decide +kernel
theorem dksJ22_compareToUTF16Values_1 : cJ22_compareToUTF16Values.data.toList.drop 23 = dktJ22_compareToUTF16Values_1 := dk_seg dksJ22_compareToUTF16Values_0 23 rfl rfl
theorem dksJ22_compareToUTF16Values_2 : cJ22_compareToUTF16Values.data.toList.drop 46 = dktJ22_compareToUTF16Values_2 := dk_seg dksJ22_compareToUTF16Values_1 23 rfl rfl
theorem dJ22_compareToUTF16Values_0 : decode cJ22_compareToUTF16Values 0 = .ok (.iload_n 2, 1) := dk_28 (dk_at dksJ22_compareToUTF16Values_0 0 rfl rfl)
theorem dJ22_compareToUTF16Values_1 : decode cJ22_compareToUTF16Values 1 = .ok (.iload_n 3, 1) := dk_29 (dk_at dksJ22_compareToUTF16Values_0 1 rfl rfl)
theorem dJ22_compareToUTF16Values_2 : decode cJ22_compareToUTF16Values 2 = .ok (.invokestatic 38, 3) := dk_184 0 38 (dk_at dksJ22_compareToUTF16Values_0 2 rfl rfl)
theorem dJ22_compareToUTF16Values_5 : decode cJ22_compareToUTF16Values 5 = .ok (.istore 4, 2) := dk_54 4 (dk_at dksJ22_compareToUTF16Values_0 5 rfl rfl)
theorem dJ22_compareToUTF16Values_7 : decode cJ22_compareToUTF16Values 7 = .ok (.iconst 0, 1) := dk_3 (dk_at dksJ22_compareToUTF16Values_0 7 rfl rfl)
theorem dJ22_compareToUTF16Values_8 : decode cJ22_compareToUTF16Values 8 = .ok (.istore 5, 2) := dk_54 5 (dk_at dksJ22_compareToUTF16Values_0 8 rfl rfl)
theorem dJ22_compareToUTF16Values_10 : decode cJ22_compareToUTF16Values 10 = .ok (.iload 5, 2) := dk_21 5 (dk_at dksJ22_compareToUTF16Values_0 10 rfl rfl)
theorem dJ22_compareToUTF16Values_12 : decode cJ22_compareToUTF16Values 12 = .ok (.iload 4, 2) := dk_21 4 (dk_at dksJ22_compareToUTF16Values_0 12 rfl rfl)
theorem dJ22_compareToUTF16Values_14 : decode cJ22_compareToUTF16Values 14 = .ok (.if_icmp .ge 38, 3) := dk_162 0 38 (dk_at dksJ22_compareToUTF16Values_0 14 rfl rfl)
theorem dJ22_compareToUTF16Values_17 : decode cJ22_compareToUTF16Values 17 = .ok (.aload_n 0, 1) := dk_42 (dk_at dksJ22_compareToUTF16Values_0 17 rfl rfl)
theorem dJ22_compareToUTF16Values_18 : decode cJ22_compareToUTF16Values 18 = .ok (.iload 5, 2) := dk_21 5 (dk_at dksJ22_compareToUTF16Values_0 18 rfl rfl)
theorem dJ22_compareToUTF16Values_20 : decode cJ22_compareToUTF16Values 20 = .ok (.invokestatic 50, 3) := dk_184 0 50 (dk_at dksJ22_compareToUTF16Values_0 20 rfl rfl)
theorem dJ22_compareToUTF16Values_23 : decode cJ22_compareToUTF16Values 23 = .ok (.istore 6, 2) := dk_54 6 (dk_at dksJ22_compareToUTF16Values_1 0 rfl rfl)
theorem dJ22_compareToUTF16Values_25 : decode cJ22_compareToUTF16Values 25 = .ok (.aload_n 1, 1) := dk_43 (dk_at dksJ22_compareToUTF16Values_1 2 rfl rfl)
theorem dJ22_compareToUTF16Values_26 : decode cJ22_compareToUTF16Values 26 = .ok (.iload 5, 2) := dk_21 5 (dk_at dksJ22_compareToUTF16Values_1 3 rfl rfl)
theorem dJ22_compareToUTF16Values_28 : decode cJ22_compareToUTF16Values 28 = .ok (.invokestatic 65, 3) := dk_184 0 65 (dk_at dksJ22_compareToUTF16Values_1 5 rfl rfl)
theorem dJ22_compareToUTF16Values_31 : decode cJ22_compareToUTF16Values 31 = .ok (.istore 7, 2) := dk_54 7 (dk_at dksJ22_compareToUTF16Values_1 8 rfl rfl)
theorem dJ22_compareToUTF16Values_33 : decode cJ22_compareToUTF16Values 33 = .ok (.iload 6, 2) := dk_21 6 (dk_at dksJ22_compareToUTF16Values_1 10 rfl rfl)
theorem dJ22_compareToUTF16Values_35 : decode cJ22_compareToUTF16Values 35 = .ok (.iload 7, 2) := dk_21 7 (dk_at dksJ22_compareToUTF16Values_1 12 rfl rfl)
theorem dJ22_compareToUTF16Values_37 : decode cJ22_compareToUTF16Values 37 = .ok (.if_icmp .eq 9, 3) := dk_159 0 9 (dk_at dksJ22_compareToUTF16Values_1 14 rfl rfl)
theorem dJ22_compareToUTF16Values_40 : decode cJ22_compareToUTF16Values 40 = .ok (.iload 6, 2) := dk_21 6 (dk_at dksJ22_compareToUTF16Values_1 17 rfl rfl)
theorem dJ22_compareToUTF16Values_42 : decode cJ22_compareToUTF16Values 42 = .ok (.iload 7, 2) := dk_21 7 (dk_at dksJ22_compareToUTF16Values_1 19 rfl rfl)
theorem dJ22_compareToUTF16Values_44 : decode cJ22_compareToUTF16Values 44 = .ok (.isub, 1) := dk_100 (dk_at dksJ22_compareToUTF16Values_1 21 rfl rfl)
theorem dJ22_compareToUTF16Values_45 : decode cJ22_compareToUTF16Values 45 = .ok (.ireturn, 1) := dk_172 (dk_at dksJ22_compareToUTF16Values_1 22 rfl rfl)
theorem dJ22_compareToUTF16Values_46 : decode cJ22_compareToUTF16Values 46 = .ok (.iinc 5 1, 3) := dk_132 5 1 (dk_at dksJ22_compareToUTF16Values_2 0 rfl rfl)
theorem dJ22_compareToUTF16Values_49 : decode cJ22_compareToUTF16Values 49 = .ok (.goto (-39), 3) := dk_167 255 217 (dk_at dksJ22_compareToUTF16Values_2 3 rfl rfl)
theorem dJ22_compareToUTF16Values_52 : decode cJ22_compareToUTF16Values 52 = .ok (.iload_n 2, 1) := dk_28 (dk_at dksJ22_compareToUTF16Values_2 6 rfl rfl)
theorem dJ22_compareToUTF16Values_53 : decode cJ22_compareToUTF16Values 53 = .ok (.iload_n 3, 1) := dk_29 (dk_at dksJ22_compareToUTF16Values_2 7 rfl rfl)
theorem dJ22_compareToUTF16Values_54 : decode cJ22_compareToUTF16Values 54 = .ok (.isub, 1) := dk_100 (dk_at dksJ22_compareToUTF16Values_2 8 rfl rfl)
theorem dJ22_compareToUTF16Values_55 : decode cJ22_compareToUTF16Values 55 = .ok (.ireturn, 1) := dk_172 (dk_at dksJ22_compareToUTF16Values_2 9 rfl rfl)
abbrev cJ22_compareToUTF16_2 : ByteArray := prog_88_method_17_code
def yJ22_compareToUTF16_2 : MethodName := ⟨RJ22, "compareToUTF16", "([B[BII)I"⟩
def dkwJ22_compareToUTF16_2_0 : List UInt8 := [28, 42, 184, 0, 54, 184, 0, 62, 29, 43, 184, 0, 58, 184, 0, 62, 42, 43, 28, 29, 184, 0, 59, 172]
abbrev dktJ22_compareToUTF16_2_0 : List UInt8 := dkwJ22_compareToUTF16_2_0 ++ []
theorem dksJ22_compareToUTF16_2_0 : cJ22_compareToUTF16_2.data.toList.drop 0 = dktJ22_compareToUTF16_2_0 := by decide +kernel
theorem dJ22_compareToUTF16_2_0 : decode cJ22_compareToUTF16_2 0 = .ok (.iload_n 2, 1) := dk_28 (dk_at dksJ22_compareToUTF16_2_0 0 rfl rfl)
theorem dJ22_compareToUTF16_2_1 : decode cJ22_compareToUTF16_2 1 = .ok (.aload_n 0, 1) := dk_42 (dk_at dksJ22_compareToUTF16_2_0 1 rfl rfl)
theorem dJ22_compareToUTF16_2_2 : decode cJ22_compareToUTF16_2 2 = .ok (.invokestatic 54, 3) := dk_184 0 54 (dk_at dksJ22_compareToUTF16_2_0 2 rfl rfl)
theorem dJ22_compareToUTF16_2_5 : decode cJ22_compareToUTF16_2 5 = .ok (.invokestatic 62, 3) := dk_184 0 62 (dk_at dksJ22_compareToUTF16_2_0 5 rfl rfl)
theorem dJ22_compareToUTF16_2_8 : decode cJ22_compareToUTF16_2 8 = .ok (.iload_n 3, 1) := dk_29 (dk_at dksJ22_compareToUTF16_2_0 8 rfl rfl)
theorem dJ22_compareToUTF16_2_9 : decode cJ22_compareToUTF16_2 9 = .ok (.aload_n 1, 1) := dk_43 (dk_at dksJ22_compareToUTF16_2_0 9 rfl rfl)
theorem dJ22_compareToUTF16_2_10 : decode cJ22_compareToUTF16_2 10 = .ok (.invokestatic 58, 3) := dk_184 0 58 (dk_at dksJ22_compareToUTF16_2_0 10 rfl rfl)
theorem dJ22_compareToUTF16_2_13 : decode cJ22_compareToUTF16_2 13 = .ok (.invokestatic 62, 3) := dk_184 0 62 (dk_at dksJ22_compareToUTF16_2_0 13 rfl rfl)
theorem dJ22_compareToUTF16_2_16 : decode cJ22_compareToUTF16_2 16 = .ok (.aload_n 0, 1) := dk_42 (dk_at dksJ22_compareToUTF16_2_0 16 rfl rfl)
theorem dJ22_compareToUTF16_2_17 : decode cJ22_compareToUTF16_2 17 = .ok (.aload_n 1, 1) := dk_43 (dk_at dksJ22_compareToUTF16_2_0 17 rfl rfl)
theorem dJ22_compareToUTF16_2_18 : decode cJ22_compareToUTF16_2 18 = .ok (.iload_n 2, 1) := dk_28 (dk_at dksJ22_compareToUTF16_2_0 18 rfl rfl)
theorem dJ22_compareToUTF16_2_19 : decode cJ22_compareToUTF16_2 19 = .ok (.iload_n 3, 1) := dk_29 (dk_at dksJ22_compareToUTF16_2_0 19 rfl rfl)
theorem dJ22_compareToUTF16_2_20 : decode cJ22_compareToUTF16_2 20 = .ok (.invokestatic 59, 3) := dk_184 0 59 (dk_at dksJ22_compareToUTF16_2_0 20 rfl rfl)
theorem dJ22_compareToUTF16_2_23 : decode cJ22_compareToUTF16_2 23 = .ok (.ireturn, 1) := dk_172 (dk_at dksJ22_compareToUTF16_2_0 23 rfl rfl)
theorem q473 : (Jvm.Cond.initialized "java/lang/StringLatin1") ∈ lw_all := lw_g (lw_at lw_m1 81 rfl) rfl
theorem q2685 : (Jvm.Cond.static ({ cls := "java/lang/StringLatin1", name := "canEncode", desc := "(C)Z" } : Jvm.MethodName)) ∈ lw_all := lw_g (lw_at lw_m10 133 rfl) rfl
theorem q2686 : (Jvm.Cond.code ({ cls := "java/lang/StringLatin1", name := "canEncode", desc := "(C)Z" } : Jvm.MethodName) prog_88_method_3_code (1 : Nat) (Option.some Jvm.ClassFile.FieldType.boolean)) ∈ lw_all := lw_g (lw_at lw_m10 134 rfl) rfl
theorem q2692 : (Jvm.Cond.static ({ cls := "java/lang/StringLatin1", name := "inflate", desc := "([BI[BII)V" } : Jvm.MethodName)) ∈ lw_all := lw_g (lw_at lw_m10 140 rfl) rfl
theorem q2693 : (Jvm.Cond.code ({ cls := "java/lang/StringLatin1", name := "inflate", desc := "([BI[BII)V" } : Jvm.MethodName) prog_88_method_50_code (5 : Nat) (Option.none : Option Jvm.ClassFile.FieldType)) ∈ lw_all := lw_g (lw_at lw_m10 141 rfl) rfl
theorem q2694 : (Jvm.Cond.methodLink "java/lang/StringLatin1" (240 : Nat) ({ cls := "java/lang/StringUTF16", name := "inflate", desc := "([BI[BII)V" } : Jvm.MethodName)) ∈ lw_all := lw_g (lw_at lw_m10 142 rfl) rfl
theorem q3052 : (Jvm.Cond.static ({ cls := "java/lang/StringLatin1", name := "equals", desc := "([B[B)Z" } : Jvm.MethodName)) ∈ lw_all := lw_g (lw_at lw_m12 20 rfl) rfl
theorem q3053 : (Jvm.Cond.code ({ cls := "java/lang/StringLatin1", name := "equals", desc := "([B[B)Z" } : Jvm.MethodName) prog_88_method_13_code (3 : Nat) (Option.some Jvm.ClassFile.FieldType.boolean)) ∈ lw_all := lw_g (lw_at lw_m12 21 rfl) rfl
theorem q3219 : (Jvm.Cond.static ({ cls := "java/lang/StringLatin1", name := "charAt", desc := "([BI)C" } : Jvm.MethodName)) ∈ lw_all := lw_g (lw_at lw_m12 187 rfl) rfl
theorem q3220 : (Jvm.Cond.code ({ cls := "java/lang/StringLatin1", name := "charAt", desc := "([BI)C" } : Jvm.MethodName) prog_88_method_2_code (2 : Nat) (Option.some Jvm.ClassFile.FieldType.char)) ∈ lw_all := lw_g (lw_at lw_m12 188 rfl) rfl
theorem q3221 : (Jvm.Cond.methodLink "java/lang/StringLatin1" (9 : Nat) ({ cls := "java/lang/String", name := "checkIndex", desc := "(II)V" } : Jvm.MethodName)) ∈ lw_all := lw_g (lw_at lw_m12 189 rfl) rfl
theorem q3681 : (Jvm.Cond.static ({ cls := "java/lang/StringLatin1", name := "hashCode", desc := "([B)I" } : Jvm.MethodName)) ∈ lw_all := lw_g (lw_at lw_m14 169 rfl) rfl
theorem q3682 : (Jvm.Cond.code ({ cls := "java/lang/StringLatin1", name := "hashCode", desc := "([B)I" } : Jvm.MethodName) prog_88_method_21_code (1 : Nat) (Option.some Jvm.ClassFile.FieldType.int)) ∈ lw_all := lw_g (lw_at lw_m14 170 rfl) rfl
theorem q3683 : (Jvm.Cond.methodLink "java/lang/StringLatin1" (84 : Nat) ({ cls := "jdk/internal/util/ArraysSupport", name := "vectorizedHashCode", desc := "(Ljava/lang/Object;IIII)I" } : Jvm.MethodName)) ∈ lw_all := lw_g (lw_at lw_m14 171 rfl) rfl
theorem q3875 : (Jvm.Cond.static ({ cls := "java/lang/StringLatin1", name := "compareTo", desc := "([B[B)I" } : Jvm.MethodName)) ∈ lw_all := lw_g (lw_at lw_m15 123 rfl) rfl
theorem q3876 : (Jvm.Cond.code ({ cls := "java/lang/StringLatin1", name := "compareTo", desc := "([B[B)I" } : Jvm.MethodName) prog_88_method_14_code (4 : Nat) (Option.some Jvm.ClassFile.FieldType.int)) ∈ lw_all := lw_g (lw_at lw_m15 124 rfl) rfl
theorem q3877 : (Jvm.Cond.methodLink "java/lang/StringLatin1" (34 : Nat) ({ cls := "java/lang/StringLatin1", name := "compareTo", desc := "([B[BII)I" } : Jvm.MethodName)) ∈ lw_all := lw_g (lw_at lw_m15 125 rfl) rfl
theorem q3878 : (Jvm.Cond.static ({ cls := "java/lang/StringLatin1", name := "compareTo", desc := "([B[BII)I" } : Jvm.MethodName)) ∈ lw_all := lw_g (lw_at lw_m15 126 rfl) rfl
theorem q3879 : (Jvm.Cond.code ({ cls := "java/lang/StringLatin1", name := "compareTo", desc := "([B[BII)I" } : Jvm.MethodName) prog_88_method_15_code (6 : Nat) (Option.some Jvm.ClassFile.FieldType.int)) ∈ lw_all := lw_g (lw_at lw_m15 127 rfl) rfl
theorem q3880 : (Jvm.Cond.methodLink "java/lang/StringLatin1" (38 : Nat) ({ cls := "java/lang/Math", name := "min", desc := "(II)I" } : Jvm.MethodName)) ∈ lw_all := lw_g (lw_at lw_m15 128 rfl) rfl
theorem q3881 : (Jvm.Cond.methodLink "java/lang/StringLatin1" (44 : Nat) ({ cls := "jdk/internal/util/ArraysSupport", name := "mismatch", desc := "([B[BI)I" } : Jvm.MethodName)) ∈ lw_all := lw_g (lw_at lw_m15 129 rfl) rfl
theorem q3982 : (Jvm.Cond.methodLink "java/lang/StringLatin1" (50 : Nat) ({ cls := "java/lang/StringLatin1", name := "getChar", desc := "([BI)C" } : Jvm.MethodName)) ∈ lw_all := lw_g (lw_at lw_m15 230 rfl) rfl
theorem q3983 : (Jvm.Cond.static ({ cls := "java/lang/StringLatin1", name := "getChar", desc := "([BI)C" } : Jvm.MethodName)) ∈ lw_all := lw_g (lw_at lw_m15 231 rfl) rfl
theorem q3984 : (Jvm.Cond.code ({ cls := "java/lang/StringLatin1", name := "getChar", desc := "([BI)C" } : Jvm.MethodName) prog_88_method_44_code (2 : Nat) (Option.some Jvm.ClassFile.FieldType.char)) ∈ lw_all := lw_g (lw_at lw_m15 232 rfl) rfl
theorem q3993 : (Jvm.Cond.static ({ cls := "java/lang/StringLatin1", name := "compareToUTF16", desc := "([B[B)I" } : Jvm.MethodName)) ∈ lw_all := lw_g (lw_at lw_m16 1 rfl) rfl
theorem q3994 : (Jvm.Cond.code ({ cls := "java/lang/StringLatin1", name := "compareToUTF16", desc := "([B[B)I" } : Jvm.MethodName) prog_88_method_16_code (4 : Nat) (Option.some Jvm.ClassFile.FieldType.int)) ∈ lw_all := lw_g (lw_at lw_m16 2 rfl) rfl
theorem q3995 : (Jvm.Cond.methodLink "java/lang/StringLatin1" (54 : Nat) ({ cls := "java/lang/StringLatin1", name := "length", desc := "([B)I" } : Jvm.MethodName)) ∈ lw_all := lw_g (lw_at lw_m16 3 rfl) rfl
theorem q3996 : (Jvm.Cond.static ({ cls := "java/lang/StringLatin1", name := "length", desc := "([B)I" } : Jvm.MethodName)) ∈ lw_all := lw_g (lw_at lw_m16 4 rfl) rfl
theorem q3997 : (Jvm.Cond.code ({ cls := "java/lang/StringLatin1", name := "length", desc := "([B)I" } : Jvm.MethodName) prog_88_method_5_code (1 : Nat) (Option.some Jvm.ClassFile.FieldType.int)) ∈ lw_all := lw_g (lw_at lw_m16 5 rfl) rfl
theorem q3998 : (Jvm.Cond.methodLink "java/lang/StringLatin1" (58 : Nat) ({ cls := "java/lang/StringUTF16", name := "length", desc := "([B)I" } : Jvm.MethodName)) ∈ lw_all := lw_g (lw_at lw_m16 6 rfl) rfl
theorem q3999 : (Jvm.Cond.methodLink "java/lang/StringLatin1" (59 : Nat) ({ cls := "java/lang/StringLatin1", name := "compareToUTF16Values", desc := "([B[BII)I" } : Jvm.MethodName)) ∈ lw_all := lw_g (lw_at lw_m16 7 rfl) rfl
theorem q4000 : (Jvm.Cond.static ({ cls := "java/lang/StringLatin1", name := "compareToUTF16Values", desc := "([B[BII)I" } : Jvm.MethodName)) ∈ lw_all := lw_g (lw_at lw_m16 8 rfl) rfl
theorem q4001 : (Jvm.Cond.code ({ cls := "java/lang/StringLatin1", name := "compareToUTF16Values", desc := "([B[BII)I" } : Jvm.MethodName) prog_88_method_18_code (8 : Nat) (Option.some Jvm.ClassFile.FieldType.int)) ∈ lw_all := lw_g (lw_at lw_m16 9 rfl) rfl
theorem q4002 : (Jvm.Cond.methodLink "java/lang/StringLatin1" (65 : Nat) ({ cls := "java/lang/StringUTF16", name := "getChar", desc := "([BI)C" } : Jvm.MethodName)) ∈ lw_all := lw_g (lw_at lw_m16 10 rfl) rfl
theorem q4032 : (Jvm.Cond.static ({ cls := "java/lang/StringLatin1", name := "compareToUTF16", desc := "([B[BII)I" } : Jvm.MethodName)) ∈ lw_all := lw_g (lw_at lw_m16 40 rfl) rfl
theorem q4033 : (Jvm.Cond.code ({ cls := "java/lang/StringLatin1", name := "compareToUTF16", desc := "([B[BII)I" } : Jvm.MethodName) prog_88_method_17_code (4 : Nat) (Option.some Jvm.ClassFile.FieldType.int)) ∈ lw_all := lw_g (lw_at lw_m16 41 rfl) rfl
theorem q4034 : (Jvm.Cond.methodLink "java/lang/StringLatin1" (62 : Nat) ({ cls := "java/lang/String", name := "checkOffset", desc := "(II)V" } : Jvm.MethodName)) ∈ lw_all := lw_g (lw_at lw_m16 42 rfl) rfl
