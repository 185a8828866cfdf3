/-! java/lang/Integer -/
set_option maxRecDepth 100000
def RJ25 : String := "java/lang/Integer"
def TJ25 : u_T := fun k => match k with
  | _ => ("java/lang/Integer", "value", "I", true)
def tyJ25 : Nat → FieldType := fun k => match k with
  | _ => .int
abbrev wsJ250 : List Cond := u_ws RJ25 TJ25 1
theorem nmJ25 : ∀ a, a < 1 → ∀ b, b < 1 → a ≠ b → (TJ25 a).2.1 ≠ (TJ25 b).2.1 := by decide +kernel
theorem tyJ25_ok : ∀ k, k < 1 → parseFieldDescriptor (TJ25 k).2.2.1 = some (tyJ25 k) := by decide +kernel
abbrev cJ25_stringSize : ByteArray := prog_78_method_13_code
def yJ25_stringSize : MethodName := ⟨RJ25, "stringSize", "(I)I"⟩
def dkwJ25_stringSize_1 : List UInt8 := [164, 0, 7, 29, 27, 96, 172, 16, 10, 28, 104, 61, 132, 3, 1, 167, 255, 233, 16, 10, 27, 96, 172]
abbrev dktJ25_stringSize_1 : List UInt8 := dkwJ25_stringSize_1 ++ []
def dkwJ25_stringSize_0 : List UInt8 := [4, 60, 26, 155, 0, 8, 3, 60, 26, 116, 59, 16, 246, 61, 4, 62, 29, 16, 10, 162, 0, 23, 26, 28]
abbrev dktJ25_stringSize_0 : List UInt8 := dkwJ25_stringSize_0 ++ dktJ25_stringSize_1
theorem dksJ25_stringSize_0 : cJ25_stringSize.data.toList.drop 0 = dktJ25_stringSize_0 := by decide +kernel
theorem dksJ25_stringSize_1 : cJ25_stringSize.data.toList.drop 24 = dktJ25_stringSize_1 := dk_seg dksJ25_stringSize_0 24 rfl rfl
theorem dJ25_stringSize_0 : decode cJ25_stringSize 0 = .ok (.iconst 1, 1) := dk_4 (dk_at dksJ25_stringSize_0 0 rfl rfl)
theorem dJ25_stringSize_1 : decode cJ25_stringSize 1 = .ok (.istore_n 1, 1) := dk_60 (dk_at dksJ25_stringSize_0 1 rfl rfl)
theorem dJ25_stringSize_2 : decode cJ25_stringSize 2 = .ok (.iload_n 0, 1) := dk_26 (dk_at dksJ25_stringSize_0 2 rfl rfl)
theorem dJ25_stringSize_3 : decode cJ25_stringSize 3 = .ok (.ifCond .lt 8, 3) := dk_155 0 8 (dk_at dksJ25_stringSize_0 3 rfl rfl)
theorem dJ25_stringSize_6 : decode cJ25_stringSize 6 = .ok (.iconst 0, 1) := dk_3 (dk_at dksJ25_stringSize_0 6 rfl rfl)
theorem dJ25_stringSize_7 : decode cJ25_stringSize 7 = .ok (.istore_n 1, 1) := dk_60 (dk_at dksJ25_stringSize_0 7 rfl rfl)
theorem dJ25_stringSize_8 : decode cJ25_stringSize 8 = .ok (.iload_n 0, 1) := dk_26 (dk_at dksJ25_stringSize_0 8 rfl rfl)
theorem dJ25_stringSize_9 : decode cJ25_stringSize 9 = .ok (.ineg, 1) := dk_116 (dk_at dksJ25_stringSize_0 9 rfl rfl)
theorem dJ25_stringSize_10 : decode cJ25_stringSize 10 = .ok (.istore_n 0, 1) := dk_59 (dk_at dksJ25_stringSize_0 10 rfl rfl)
theorem dJ25_stringSize_11 : decode cJ25_stringSize 11 = .ok (.bipush (-10), 2) := dk_16 246 (dk_at dksJ25_stringSize_0 11 rfl rfl)
theorem dJ25_stringSize_13 : decode cJ25_stringSize 13 = .ok (.istore_n 2, 1) := dk_61 (dk_at dksJ25_stringSize_0 13 rfl rfl)
theorem dJ25_stringSize_14 : decode cJ25_stringSize 14 = .ok (.iconst 1, 1) := dk_4 (dk_at dksJ25_stringSize_0 14 rfl rfl)
theorem dJ25_stringSize_15 : decode cJ25_stringSize 15 = .ok (.istore_n 3, 1) := dk_62 (dk_at dksJ25_stringSize_0 15 rfl rfl)
theorem dJ25_stringSize_16 : decode cJ25_stringSize 16 = .ok (.iload_n 3, 1) := dk_29 (dk_at dksJ25_stringSize_0 16 rfl rfl)
theorem dJ25_stringSize_17 : decode cJ25_stringSize 17 = .ok (.bipush 10, 2) := dk_16 10 (dk_at dksJ25_stringSize_0 17 rfl rfl)
theorem dJ25_stringSize_19 : decode cJ25_stringSize 19 = .ok (.if_icmp .ge 23, 3) := dk_162 0 23 (dk_at dksJ25_stringSize_0 19 rfl rfl)
theorem dJ25_stringSize_22 : decode cJ25_stringSize 22 = .ok (.iload_n 0, 1) := dk_26 (dk_at dksJ25_stringSize_0 22 rfl rfl)
theorem dJ25_stringSize_23 : decode cJ25_stringSize 23 = .ok (.iload_n 2, 1) := dk_28 (dk_at dksJ25_stringSize_0 23 rfl rfl)
theorem dJ25_stringSize_24 : decode cJ25_stringSize 24 = .ok (.if_icmp .le 7, 3) := dk_164 0 7 (dk_at dksJ25_stringSize_1 0 rfl rfl)
theorem dJ25_stringSize_27 : decode cJ25_stringSize 27 = .ok (.iload_n 3, 1) := dk_29 (dk_at dksJ25_stringSize_1 3 rfl rfl)
theorem dJ25_stringSize_28 : decode cJ25_stringSize 28 = .ok (.iload_n 1, 1) := dk_27 (dk_at dksJ25_stringSize_1 4 rfl rfl)
theorem dJ25_stringSize_29 : decode cJ25_stringSize 29 = .ok (.iadd, 1) := dk_96 (dk_at dksJ25_stringSize_1 5 rfl rfl)
theorem dJ25_stringSize_30 : decode cJ25_stringSize 30 = .ok (.ireturn, 1) := dk_172 (dk_at dksJ25_stringSize_1 6 rfl rfl)
theorem dJ25_stringSize_31 : decode cJ25_stringSize 31 = .ok (.bipush 10, 2) := dk_16 10 (dk_at dksJ25_stringSize_1 7 rfl rfl)
theorem dJ25_stringSize_33 : decode cJ25_stringSize 33 = .ok (.iload_n 2, 1) := dk_28 (dk_at dksJ25_stringSize_1 9 rfl rfl)
theorem dJ25_stringSize_34 : decode cJ25_stringSize 34 = .ok (.imul, 1) := dk_104 (dk_at dksJ25_stringSize_1 10 rfl rfl)
theorem dJ25_stringSize_35 : decode cJ25_stringSize 35 = .ok (.istore_n 2, 1) := dk_61 (dk_at dksJ25_stringSize_1 11 rfl rfl)
theorem dJ25_stringSize_36 : decode cJ25_stringSize 36 = .ok (.iinc 3 1, 3) := dk_132 3 1 (dk_at dksJ25_stringSize_1 12 rfl rfl)
theorem dJ25_stringSize_39 : decode cJ25_stringSize 39 = .ok (.goto (-23), 3) := dk_167 255 233 (dk_at dksJ25_stringSize_1 15 rfl rfl)
theorem dJ25_stringSize_42 : decode cJ25_stringSize 42 = .ok (.bipush 10, 2) := dk_16 10 (dk_at dksJ25_stringSize_1 18 rfl rfl)
theorem dJ25_stringSize_44 : decode cJ25_stringSize 44 = .ok (.iload_n 1, 1) := dk_27 (dk_at dksJ25_stringSize_1 20 rfl rfl)
theorem dJ25_stringSize_45 : decode cJ25_stringSize 45 = .ok (.iadd, 1) := dk_96 (dk_at dksJ25_stringSize_1 21 rfl rfl)
theorem dJ25_stringSize_46 : decode cJ25_stringSize 46 = .ok (.ireturn, 1) := dk_172 (dk_at dksJ25_stringSize_1 22 rfl rfl)
abbrev cJ25_getChars : ByteArray := prog_78_method_12_code
def yJ25_getChars : MethodName := ⟨RJ25, "getChars", "(II[B)I"⟩
def dkwJ25_getChars_5 : List UInt8 := [16, 45, 84, 21, 5, 172]
abbrev dktJ25_getChars_5 : List UInt8 := dkwJ25_getChars_5 ++ []
def dkwJ25_getChars_4 : List UInt8 := [132, 5, 255, 21, 5, 178, 0, 87, 26, 116, 51, 84, 21, 6, 153, 0, 12, 44, 132, 5, 255, 21, 5]
abbrev dktJ25_getChars_4 : List UInt8 := dkwJ25_getChars_4 ++ dktJ25_getChars_5
def dkwJ25_getChars_3 : List UInt8 := [167, 255, 209, 44, 132, 5, 255, 21, 5, 178, 0, 83, 26, 116, 51, 84, 26, 16, 247, 162, 0, 16, 44]
abbrev dktJ25_getChars_3 : List UInt8 := dkwJ25_getChars_3 ++ dktJ25_getChars_4
def dkwJ25_getChars_2 : List UInt8 := [21, 5, 178, 0, 83, 21, 4, 51, 84, 44, 132, 5, 255, 21, 5, 178, 0, 87, 21, 4, 51, 84]
abbrev dktJ25_getChars_2 : List UInt8 := dkwJ25_getChars_2 ++ dktJ25_getChars_3
def dkwJ25_getChars_1 : List UInt8 := [16, 156, 163, 0, 47, 26, 16, 100, 108, 62, 29, 16, 100, 104, 26, 100, 54, 4, 29, 59, 44, 132, 5, 255]
abbrev dktJ25_getChars_1 : List UInt8 := dkwJ25_getChars_1 ++ dktJ25_getChars_2
def dkwJ25_getChars_0 : List UInt8 := [27, 54, 5, 26, 156, 0, 7, 4, 167, 0, 4, 3, 54, 6, 21, 6, 154, 0, 6, 26, 116, 59, 26]
abbrev dktJ25_getChars_0 : List UInt8 := dkwJ25_getChars_0 ++ dktJ25_getChars_1
theorem dksJ25_getChars_0 : cJ25_getChars.data.toList.drop 0 = dktJ25_getChars_0 := by decide +kernel
theorem dksJ25_getChars_1 : cJ25_getChars.data.toList.drop 23 = dktJ25_getChars_1 := dk_seg dksJ25_getChars_0 23 rfl rfl
theorem dksJ25_getChars_2 : cJ25_getChars.data.toList.drop 47 = dktJ25_getChars_2 := dk_seg dksJ25_getChars_1 24 rfl rfl
theorem dksJ25_getChars_3 : cJ25_getChars.data.toList.drop 69 = dktJ25_getChars_3 := dk_seg dksJ25_getChars_2 22 rfl rfl
theorem dksJ25_getChars_4 : cJ25_getChars.data.toList.drop 92 = dktJ25_getChars_4 := dk_seg dksJ25_getChars_3 23 rfl rfl
theorem dksJ25_getChars_5 : cJ25_getChars.data.toList.drop 115 = dktJ25_getChars_5 := dk_seg dksJ25_getChars_4 23 rfl rfl
theorem dJ25_getChars_0 : decode cJ25_getChars 0 = .ok (.iload_n 1, 1) := dk_27 (dk_at dksJ25_getChars_0 0 rfl rfl)
theorem dJ25_getChars_1 : decode cJ25_getChars 1 = .ok (.istore 5, 2) := dk_54 5 (dk_at dksJ25_getChars_0 1 rfl rfl)
theorem dJ25_getChars_3 : decode cJ25_getChars 3 = .ok (.iload_n 0, 1) := dk_26 (dk_at dksJ25_getChars_0 3 rfl rfl)
theorem dJ25_getChars_4 : decode cJ25_getChars 4 = .ok (.ifCond .ge 7, 3) := dk_156 0 7 (dk_at dksJ25_getChars_0 4 rfl rfl)
theorem dJ25_getChars_7 : decode cJ25_getChars 7 = .ok (.iconst 1, 1) := dk_4 (dk_at dksJ25_getChars_0 7 rfl rfl)
theorem dJ25_getChars_8 : decode cJ25_getChars 8 = .ok (.goto 4, 3) := dk_167 0 4 (dk_at dksJ25_getChars_0 8 rfl rfl)
theorem dJ25_getChars_11 : decode cJ25_getChars 11 = .ok (.iconst 0, 1) := dk_3 (dk_at dksJ25_getChars_0 11 rfl rfl)
theorem dJ25_getChars_12 : decode cJ25_getChars 12 = .ok (.istore 6, 2) := dk_54 6 (dk_at dksJ25_getChars_0 12 rfl rfl)
theorem dJ25_getChars_14 : decode cJ25_getChars 14 = .ok (.iload 6, 2) := dk_21 6 (dk_at dksJ25_getChars_0 14 rfl rfl)
theorem dJ25_getChars_16 : decode cJ25_getChars 16 = .ok (.ifCond .ne 6, 3) := dk_154 0 6 (dk_at dksJ25_getChars_0 16 rfl rfl)
theorem dJ25_getChars_19 : decode cJ25_getChars 19 = .ok (.iload_n 0, 1) := dk_26 (dk_at dksJ25_getChars_0 19 rfl rfl)
theorem dJ25_getChars_20 : decode cJ25_getChars 20 = .ok (.ineg, 1) := dk_116 (dk_at dksJ25_getChars_0 20 rfl rfl)
theorem dJ25_getChars_21 : decode cJ25_getChars 21 = .ok (.istore_n 0, 1) := dk_59 (dk_at dksJ25_getChars_0 21 rfl rfl)
theorem dJ25_getChars_22 : decode cJ25_getChars 22 = .ok (.iload_n 0, 1) := dk_26 (dk_at dksJ25_getChars_0 22 rfl rfl)
theorem dJ25_getChars_23 : decode cJ25_getChars 23 = .ok (.bipush (-100), 2) := dk_16 156 (dk_at dksJ25_getChars_1 0 rfl rfl)
theorem dJ25_getChars_25 : decode cJ25_getChars 25 = .ok (.if_icmp .gt 47, 3) := dk_163 0 47 (dk_at dksJ25_getChars_1 2 rfl rfl)
theorem dJ25_getChars_28 : decode cJ25_getChars 28 = .ok (.iload_n 0, 1) := dk_26 (dk_at dksJ25_getChars_1 5 rfl rfl)
theorem dJ25_getChars_29 : decode cJ25_getChars 29 = .ok (.bipush 100, 2) := dk_16 100 (dk_at dksJ25_getChars_1 6 rfl rfl)
theorem dJ25_getChars_31 : decode cJ25_getChars 31 = .ok (.idiv, 1) := dk_108 (dk_at dksJ25_getChars_1 8 rfl rfl)
theorem dJ25_getChars_32 : decode cJ25_getChars 32 = .ok (.istore_n 3, 1) := dk_62 (dk_at dksJ25_getChars_1 9 rfl rfl)
theorem dJ25_getChars_33 : decode cJ25_getChars 33 = .ok (.iload_n 3, 1) := dk_29 (dk_at dksJ25_getChars_1 10 rfl rfl)
theorem dJ25_getChars_34 : decode cJ25_getChars 34 = .ok (.bipush 100, 2) := dk_16 100 (dk_at dksJ25_getChars_1 11 rfl rfl)
theorem dJ25_getChars_36 : decode cJ25_getChars 36 = .ok (.imul, 1) := dk_104 (dk_at dksJ25_getChars_1 13 rfl rfl)
theorem dJ25_getChars_37 : decode cJ25_getChars 37 = .ok (.iload_n 0, 1) := dk_26 (dk_at dksJ25_getChars_1 14 rfl rfl)
theorem dJ25_getChars_38 : decode cJ25_getChars 38 = .ok (.isub, 1) := dk_100 (dk_at dksJ25_getChars_1 15 rfl rfl)
theorem dJ25_getChars_39 : decode cJ25_getChars 39 = .ok (.istore 4, 2) := dk_54 4 (dk_at dksJ25_getChars_1 16 rfl rfl)
theorem dJ25_getChars_41 : decode cJ25_getChars 41 = .ok (.iload_n 3, 1) := dk_29 (dk_at dksJ25_getChars_1 18 rfl rfl)
theorem dJ25_getChars_42 : decode cJ25_getChars 42 = .ok (.istore_n 0, 1) := dk_59 (dk_at dksJ25_getChars_1 19 rfl rfl)
theorem dJ25_getChars_43 : decode cJ25_getChars 43 = .ok (.aload_n 2, 1) := dk_44 (dk_at dksJ25_getChars_1 20 rfl rfl)
theorem dJ25_getChars_44 : decode cJ25_getChars 44 = .ok (.iinc 5 (-1), 3) := dk_132 5 255 (dk_at dksJ25_getChars_1 21 rfl rfl)
theorem dJ25_getChars_47 : decode cJ25_getChars 47 = .ok (.iload 5, 2) := dk_21 5 (dk_at dksJ25_getChars_2 0 rfl rfl)
theorem dJ25_getChars_49 : decode cJ25_getChars 49 = .ok (.getstatic 83, 3) := dk_178 0 83 (dk_at dksJ25_getChars_2 2 rfl rfl)
theorem dJ25_getChars_52 : decode cJ25_getChars 52 = .ok (.iload 4, 2) := dk_21 4 (dk_at dksJ25_getChars_2 5 rfl rfl)
theorem dJ25_getChars_54 : decode cJ25_getChars 54 = .ok (.baload, 1) := dk_51 (dk_at dksJ25_getChars_2 7 rfl rfl)
theorem dJ25_getChars_55 : decode cJ25_getChars 55 = .ok (.bastore, 1) := dk_84 (dk_at dksJ25_getChars_2 8 rfl rfl)
theorem dJ25_getChars_56 : decode cJ25_getChars 56 = .ok (.aload_n 2, 1) := dk_44 (dk_at dksJ25_getChars_2 9 rfl rfl)
theorem dJ25_getChars_57 : decode cJ25_getChars 57 = .ok (.iinc 5 (-1), 3) := dk_132 5 255 (dk_at dksJ25_getChars_2 10 rfl rfl)
theorem dJ25_getChars_60 : decode cJ25_getChars 60 = .ok (.iload 5, 2) := dk_21 5 (dk_at dksJ25_getChars_2 13 rfl rfl)
theorem dJ25_getChars_62 : decode cJ25_getChars 62 = .ok (.getstatic 87, 3) := dk_178 0 87 (dk_at dksJ25_getChars_2 15 rfl rfl)
theorem dJ25_getChars_65 : decode cJ25_getChars 65 = .ok (.iload 4, 2) := dk_21 4 (dk_at dksJ25_getChars_2 18 rfl rfl)
theorem dJ25_getChars_67 : decode cJ25_getChars 67 = .ok (.baload, 1) := dk_51 (dk_at dksJ25_getChars_2 20 rfl rfl)
theorem dJ25_getChars_68 : decode cJ25_getChars 68 = .ok (.bastore, 1) := dk_84 (dk_at dksJ25_getChars_2 21 rfl rfl)
theorem dJ25_getChars_69 : decode cJ25_getChars 69 = .ok (.goto (-47), 3) := dk_167 255 209 (dk_at dksJ25_getChars_3 0 rfl rfl)
theorem dJ25_getChars_72 : decode cJ25_getChars 72 = .ok (.aload_n 2, 1) := dk_44 (dk_at dksJ25_getChars_3 3 rfl rfl)
theorem dJ25_getChars_73 : decode cJ25_getChars 73 = .ok (.iinc 5 (-1), 3) := dk_132 5 255 (dk_at dksJ25_getChars_3 4 rfl rfl)
theorem dJ25_getChars_76 : decode cJ25_getChars 76 = .ok (.iload 5, 2) := dk_21 5 (dk_at dksJ25_getChars_3 7 rfl rfl)
theorem dJ25_getChars_78 : decode cJ25_getChars 78 = .ok (.getstatic 83, 3) := dk_178 0 83 (dk_at dksJ25_getChars_3 9 rfl rfl)
theorem dJ25_getChars_81 : decode cJ25_getChars 81 = .ok (.iload_n 0, 1) := dk_26 (dk_at dksJ25_getChars_3 12 rfl rfl)
theorem dJ25_getChars_82 : decode cJ25_getChars 82 = .ok (.ineg, 1) := dk_116 (dk_at dksJ25_getChars_3 13 rfl rfl)
theorem dJ25_getChars_83 : decode cJ25_getChars 83 = .ok (.baload, 1) := dk_51 (dk_at dksJ25_getChars_3 14 rfl rfl)
theorem dJ25_getChars_84 : decode cJ25_getChars 84 = .ok (.bastore, 1) := dk_84 (dk_at dksJ25_getChars_3 15 rfl rfl)
theorem dJ25_getChars_85 : decode cJ25_getChars 85 = .ok (.iload_n 0, 1) := dk_26 (dk_at dksJ25_getChars_3 16 rfl rfl)
theorem dJ25_getChars_86 : decode cJ25_getChars 86 = .ok (.bipush (-9), 2) := dk_16 247 (dk_at dksJ25_getChars_3 17 rfl rfl)
theorem dJ25_getChars_88 : decode cJ25_getChars 88 = .ok (.if_icmp .ge 16, 3) := dk_162 0 16 (dk_at dksJ25_getChars_3 19 rfl rfl)
theorem dJ25_getChars_91 : decode cJ25_getChars 91 = .ok (.aload_n 2, 1) := dk_44 (dk_at dksJ25_getChars_3 22 rfl rfl)
theorem dJ25_getChars_92 : decode cJ25_getChars 92 = .ok (.iinc 5 (-1), 3) := dk_132 5 255 (dk_at dksJ25_getChars_4 0 rfl rfl)
theorem dJ25_getChars_95 : decode cJ25_getChars 95 = .ok (.iload 5, 2) := dk_21 5 (dk_at dksJ25_getChars_4 3 rfl rfl)
theorem dJ25_getChars_97 : decode cJ25_getChars 97 = .ok (.getstatic 87, 3) := dk_178 0 87 (dk_at dksJ25_getChars_4 5 rfl rfl)
theorem dJ25_getChars_100 : decode cJ25_getChars 100 = .ok (.iload_n 0, 1) := dk_26 (dk_at dksJ25_getChars_4 8 rfl rfl)
theorem dJ25_getChars_101 : decode cJ25_getChars 101 = .ok (.ineg, 1) := dk_116 (dk_at dksJ25_getChars_4 9 rfl rfl)
theorem dJ25_getChars_102 : decode cJ25_getChars 102 = .ok (.baload, 1) := dk_51 (dk_at dksJ25_getChars_4 10 rfl rfl)
theorem dJ25_getChars_103 : decode cJ25_getChars 103 = .ok (.bastore, 1) := dk_84 (dk_at dksJ25_getChars_4 11 rfl rfl)
theorem dJ25_getChars_104 : decode cJ25_getChars 104 = .ok (.iload 6, 2) := dk_21 6 (dk_at dksJ25_getChars_4 12 rfl rfl)
theorem dJ25_getChars_106 : decode cJ25_getChars 106 = .ok (.ifCond .eq 12, 3) := dk_153 0 12 (dk_at dksJ25_getChars_4 14 rfl rfl)
theorem dJ25_getChars_109 : decode cJ25_getChars 109 = .ok (.aload_n 2, 1) := dk_44 (dk_at dksJ25_getChars_4 17 rfl rfl)
theorem dJ25_getChars_110 : decode cJ25_getChars 110 = .ok (.iinc 5 (-1), 3) := dk_132 5 255 (dk_at dksJ25_getChars_4 18 rfl rfl)
theorem dJ25_getChars_113 : decode cJ25_getChars 113 = .ok (.iload 5, 2) := dk_21 5 (dk_at dksJ25_getChars_4 21 rfl rfl)
theorem dJ25_getChars_115 : decode cJ25_getChars 115 = .ok (.bipush 45, 2) := dk_16 45 (dk_at dksJ25_getChars_5 0 rfl rfl)
theorem dJ25_getChars_117 : decode cJ25_getChars 117 = .ok (.bastore, 1) := dk_84 (dk_at dksJ25_getChars_5 2 rfl rfl)
theorem dJ25_getChars_118 : decode cJ25_getChars 118 = .ok (.iload 5, 2) := dk_21 5 (dk_at dksJ25_getChars_5 3 rfl rfl)
theorem dJ25_getChars_120 : decode cJ25_getChars 120 = .ok (.ireturn, 1) := dk_172 (dk_at dksJ25_getChars_5 5 rfl rfl)
abbrev cJ25_equals : ByteArray := prog_78_method_34_code
def yJ25_equals : MethodName := ⟨RJ25, "equals", "(Ljava/lang/Object;)Z"⟩
def dkwJ25_equals_1 : List UInt8 := [167, 0, 4, 3, 172, 3, 172]
abbrev dktJ25_equals_1 : List UInt8 := dkwJ25_equals_1 ++ []
def dkwJ25_equals_0 : List UInt8 := [43, 193, 0, 1, 153, 0, 23, 42, 180, 0, 205, 43, 192, 0, 1, 182, 0, 211, 160, 0, 7, 4]
abbrev dktJ25_equals_0 : List UInt8 := dkwJ25_equals_0 ++ dktJ25_equals_1
theorem dksJ25_equals_0 : cJ25_equals.data.toList.drop 0 = dktJ25_equals_0 := by decide +kernel
theorem dksJ25_equals_1 : cJ25_equals.data.toList.drop 22 = dktJ25_equals_1 := dk_seg dksJ25_equals_0 22 rfl rfl
theorem dJ25_equals_0 : decode cJ25_equals 0 = .ok (.aload_n 1, 1) := dk_43 (dk_at dksJ25_equals_0 0 rfl rfl)
theorem dJ25_equals_1 : decode cJ25_equals 1 = .ok (.instanceof 1, 3) := dk_193 0 1 (dk_at dksJ25_equals_0 1 rfl rfl)
theorem dJ25_equals_4 : decode cJ25_equals 4 = .ok (.ifCond .eq 23, 3) := dk_153 0 23 (dk_at dksJ25_equals_0 4 rfl rfl)
theorem dJ25_equals_7 : decode cJ25_equals 7 = .ok (.aload_n 0, 1) := dk_42 (dk_at dksJ25_equals_0 7 rfl rfl)
theorem dJ25_equals_8 : decode cJ25_equals 8 = .ok (.getfield 205, 3) := dk_180 0 205 (dk_at dksJ25_equals_0 8 rfl rfl)
theorem dJ25_equals_11 : decode cJ25_equals 11 = .ok (.aload_n 1, 1) := dk_43 (dk_at dksJ25_equals_0 11 rfl rfl)
theorem dJ25_equals_12 : decode cJ25_equals 12 = .ok (.checkcast 1, 3) := dk_192 0 1 (dk_at dksJ25_equals_0 12 rfl rfl)
theorem dJ25_equals_15 : decode cJ25_equals 15 = .ok (.invokevirtual 211, 3) := dk_182 0 211 (dk_at dksJ25_equals_0 15 rfl rfl)
theorem dJ25_equals_18 : decode cJ25_equals 18 = .ok (.if_icmp .ne 7, 3) := dk_160 0 7 (dk_at dksJ25_equals_0 18 rfl rfl)
theorem dJ25_equals_21 : decode cJ25_equals 21 = .ok (.iconst 1, 1) := dk_4 (dk_at dksJ25_equals_0 21 rfl rfl)
theorem dJ25_equals_22 : decode cJ25_equals 22 = .ok (.goto 4, 3) := dk_167 0 4 (dk_at dksJ25_equals_1 0 rfl rfl)
theorem dJ25_equals_25 : decode cJ25_equals 25 = .ok (.iconst 0, 1) := dk_3 (dk_at dksJ25_equals_1 3 rfl rfl)
theorem dJ25_equals_26 : decode cJ25_equals 26 = .ok (.ireturn, 1) := dk_172 (dk_at dksJ25_equals_1 4 rfl rfl)
theorem dJ25_equals_27 : decode cJ25_equals 27 = .ok (.iconst 0, 1) := dk_3 (dk_at dksJ25_equals_1 5 rfl rfl)
theorem dJ25_equals_28 : decode cJ25_equals 28 = .ok (.ireturn, 1) := dk_172 (dk_at dksJ25_equals_1 6 rfl rfl)
abbrev cJ25_intValue : ByteArray := prog_78_method_27_code
def yJ25_intValue : MethodName := ⟨RJ25, "intValue", "()I"⟩
theorem dJ25_intValue_0 : decode cJ25_intValue 0 = .ok (.aload_n 0, 1) := by decide +kernel
theorem dJ25_intValue_1 : decode cJ25_intValue 1 = .ok (.getfield 205, 3) := by decide +kernel
theorem dJ25_intValue_4 : decode cJ25_intValue 4 = .ok (.ireturn, 1) := by decide +kernel
abbrev cJ25_numberOfTrailingZeros : ByteArray := prog_78_method_48_code
def yJ25_numberOfTrailingZeros : MethodName := ⟨RJ25, "numberOfTrailingZeros", "(I)I"⟩
def dkwJ25_numberOfTrailingZeros_3 : List UInt8 := [5, 124, 59, 27, 26, 4, 124, 96, 172]
abbrev dktJ25_numberOfTrailingZeros_3 : List UInt8 := dkwJ25_numberOfTrailingZeros_3 ++ []
def dkwJ25_numberOfTrailingZeros_2 : List UInt8 := [124, 59, 26, 16, 16, 164, 0, 10, 132, 1, 4, 26, 7, 124, 59, 26, 7, 164, 0, 10, 132, 1, 2, 26]
abbrev dktJ25_numberOfTrailingZeros_2 : List UInt8 := dkwJ25_numberOfTrailingZeros_2 ++ dktJ25_numberOfTrailingZeros_3
def dkwJ25_numberOfTrailingZeros_1 : List UInt8 := [164, 0, 11, 132, 1, 16, 26, 16, 16, 124, 59, 26, 17, 1, 0, 164, 0, 11, 132, 1, 8, 26, 16, 8]
abbrev dktJ25_numberOfTrailingZeros_1 : List UInt8 := dkwJ25_numberOfTrailingZeros_1 ++ dktJ25_numberOfTrailingZeros_2
def dkwJ25_numberOfTrailingZeros_0 : List UInt8 := [26, 2, 130, 26, 4, 100, 126, 59, 26, 157, 0, 8, 26, 16, 32, 126, 172, 4, 60, 26, 19, 1, 8]
abbrev dktJ25_numberOfTrailingZeros_0 : List UInt8 := dkwJ25_numberOfTrailingZeros_0 ++ dktJ25_numberOfTrailingZeros_1
theorem dksJ25_numberOfTrailingZeros_0 : cJ25_numberOfTrailingZeros.data.toList.drop 0 = dktJ25_numberOfTrailingZeros_0 := by decide +kernel
theorem dksJ25_numberOfTrailingZeros_1 : cJ25_numberOfTrailingZeros.data.toList.drop 23 = dktJ25_numberOfTrailingZeros_1 := dk_seg dksJ25_numberOfTrailingZeros_0 23 rfl rfl
theorem dksJ25_numberOfTrailingZeros_2 : cJ25_numberOfTrailingZeros.data.toList.drop 47 = dktJ25_numberOfTrailingZeros_2 := dk_seg dksJ25_numberOfTrailingZeros_1 24 rfl rfl
theorem dksJ25_numberOfTrailingZeros_3 : cJ25_numberOfTrailingZeros.data.toList.drop 71 = dktJ25_numberOfTrailingZeros_3 := dk_seg dksJ25_numberOfTrailingZeros_2 24 rfl rfl
theorem dJ25_numberOfTrailingZeros_0 : decode cJ25_numberOfTrailingZeros 0 = .ok (.iload_n 0, 1) := dk_26 (dk_at dksJ25_numberOfTrailingZeros_0 0 rfl rfl)
theorem dJ25_numberOfTrailingZeros_1 : decode cJ25_numberOfTrailingZeros 1 = .ok (.iconst (-1), 1) := dk_2 (dk_at dksJ25_numberOfTrailingZeros_0 1 rfl rfl)
theorem dJ25_numberOfTrailingZeros_2 : decode cJ25_numberOfTrailingZeros 2 = .ok (.ixor, 1) := dk_130 (dk_at dksJ25_numberOfTrailingZeros_0 2 rfl rfl)
theorem dJ25_numberOfTrailingZeros_3 : decode cJ25_numberOfTrailingZeros 3 = .ok (.iload_n 0, 1) := dk_26 (dk_at dksJ25_numberOfTrailingZeros_0 3 rfl rfl)
theorem dJ25_numberOfTrailingZeros_4 : decode cJ25_numberOfTrailingZeros 4 = .ok (.iconst 1, 1) := dk_4 (dk_at dksJ25_numberOfTrailingZeros_0 4 rfl rfl)
theorem dJ25_numberOfTrailingZeros_5 : decode cJ25_numberOfTrailingZeros 5 = .ok (.isub, 1) := dk_100 (dk_at dksJ25_numberOfTrailingZeros_0 5 rfl rfl)
theorem dJ25_numberOfTrailingZeros_6 : decode cJ25_numberOfTrailingZeros 6 = .ok (.iand, 1) := dk_126 (dk_at dksJ25_numberOfTrailingZeros_0 6 rfl rfl)
theorem dJ25_numberOfTrailingZeros_7 : decode cJ25_numberOfTrailingZeros 7 = .ok (.istore_n 0, 1) := dk_59 (dk_at dksJ25_numberOfTrailingZeros_0 7 rfl rfl)
theorem dJ25_numberOfTrailingZeros_8 : decode cJ25_numberOfTrailingZeros 8 = .ok (.iload_n 0, 1) := dk_26 (dk_at dksJ25_numberOfTrailingZeros_0 8 rfl rfl)
theorem dJ25_numberOfTrailingZeros_9 : decode cJ25_numberOfTrailingZeros 9 = .ok (.ifCond .gt 8, 3) := dk_157 0 8 (dk_at dksJ25_numberOfTrailingZeros_0 9 rfl rfl)
theorem dJ25_numberOfTrailingZeros_12 : decode cJ25_numberOfTrailingZeros 12 = .ok (.iload_n 0, 1) := dk_26 (dk_at dksJ25_numberOfTrailingZeros_0 12 rfl rfl)
theorem dJ25_numberOfTrailingZeros_13 : decode cJ25_numberOfTrailingZeros 13 = .ok (.bipush 32, 2) := dk_16 32 (dk_at dksJ25_numberOfTrailingZeros_0 13 rfl rfl)
theorem dJ25_numberOfTrailingZeros_15 : decode cJ25_numberOfTrailingZeros 15 = .ok (.iand, 1) := dk_126 (dk_at dksJ25_numberOfTrailingZeros_0 15 rfl rfl)
theorem dJ25_numberOfTrailingZeros_16 : decode cJ25_numberOfTrailingZeros 16 = .ok (.ireturn, 1) := dk_172 (dk_at dksJ25_numberOfTrailingZeros_0 16 rfl rfl)
theorem dJ25_numberOfTrailingZeros_17 : decode cJ25_numberOfTrailingZeros 17 = .ok (.iconst 1, 1) := dk_4 (dk_at dksJ25_numberOfTrailingZeros_0 17 rfl rfl)
theorem dJ25_numberOfTrailingZeros_18 : decode cJ25_numberOfTrailingZeros 18 = .ok (.istore_n 1, 1) := dk_60 (dk_at dksJ25_numberOfTrailingZeros_0 18 rfl rfl)
theorem dJ25_numberOfTrailingZeros_19 : decode cJ25_numberOfTrailingZeros 19 = .ok (.iload_n 0, 1) := dk_26 (dk_at dksJ25_numberOfTrailingZeros_0 19 rfl rfl)
theorem dJ25_numberOfTrailingZeros_20 : decode cJ25_numberOfTrailingZeros 20 = .ok (.ldc_w 264, 3) := dk_19 1 8 (dk_at dksJ25_numberOfTrailingZeros_0 20 rfl rfl)
theorem dJ25_numberOfTrailingZeros_23 : decode cJ25_numberOfTrailingZeros 23 = .ok (.if_icmp .le 11, 3) := dk_164 0 11 (dk_at dksJ25_numberOfTrailingZeros_1 0 rfl rfl)
theorem dJ25_numberOfTrailingZeros_26 : decode cJ25_numberOfTrailingZeros 26 = .ok (.iinc 1 16, 3) := dk_132 1 16 (dk_at dksJ25_numberOfTrailingZeros_1 3 rfl rfl)
theorem dJ25_numberOfTrailingZeros_29 : decode cJ25_numberOfTrailingZeros 29 = .ok (.iload_n 0, 1) := dk_26 (dk_at dksJ25_numberOfTrailingZeros_1 6 rfl rfl)
theorem dJ25_numberOfTrailingZeros_30 : decode cJ25_numberOfTrailingZeros 30 = .ok (.bipush 16, 2) := dk_16 16 (dk_at dksJ25_numberOfTrailingZeros_1 7 rfl rfl)
theorem dJ25_numberOfTrailingZeros_32 : decode cJ25_numberOfTrailingZeros 32 = .ok (.iushr, 1) := dk_124 (dk_at dksJ25_numberOfTrailingZeros_1 9 rfl rfl)
theorem dJ25_numberOfTrailingZeros_33 : decode cJ25_numberOfTrailingZeros 33 = .ok (.istore_n 0, 1) := dk_59 (dk_at dksJ25_numberOfTrailingZeros_1 10 rfl rfl)
theorem dJ25_numberOfTrailingZeros_34 : decode cJ25_numberOfTrailingZeros 34 = .ok (.iload_n 0, 1) := dk_26 (dk_at dksJ25_numberOfTrailingZeros_1 11 rfl rfl)
theorem dJ25_numberOfTrailingZeros_35 : decode cJ25_numberOfTrailingZeros 35 = .ok (.sipush 256, 3) := dk_17 1 0 (dk_at dksJ25_numberOfTrailingZeros_1 12 rfl rfl)
theorem dJ25_numberOfTrailingZeros_38 : decode cJ25_numberOfTrailingZeros 38 = .ok (.if_icmp .le 11, 3) := dk_164 0 11 (dk_at dksJ25_numberOfTrailingZeros_1 15 rfl rfl)
theorem dJ25_numberOfTrailingZeros_41 : decode cJ25_numberOfTrailingZeros 41 = .ok (.iinc 1 8, 3) := dk_132 1 8 (dk_at dksJ25_numberOfTrailingZeros_1 18 rfl rfl)
theorem dJ25_numberOfTrailingZeros_44 : decode cJ25_numberOfTrailingZeros 44 = .ok (.iload_n 0, 1) := dk_26 (dk_at dksJ25_numberOfTrailingZeros_1 21 rfl rfl)
theorem dJ25_numberOfTrailingZeros_45 : decode cJ25_numberOfTrailingZeros 45 = .ok (.bipush 8, 2) := dk_16 8 (dk_at dksJ25_numberOfTrailingZeros_1 22 rfl rfl)
theorem dJ25_numberOfTrailingZeros_47 : decode cJ25_numberOfTrailingZeros 47 = .ok (.iushr, 1) := dk_124 (dk_at dksJ25_numberOfTrailingZeros_2 0 rfl rfl)
theorem dJ25_numberOfTrailingZeros_48 : decode cJ25_numberOfTrailingZeros 48 = .ok (.istore_n 0, 1) := dk_59 (dk_at dksJ25_numberOfTrailingZeros_2 1 rfl rfl)
theorem dJ25_numberOfTrailingZeros_49 : decode cJ25_numberOfTrailingZeros 49 = .ok (.iload_n 0, 1) := dk_26 (dk_at dksJ25_numberOfTrailingZeros_2 2 rfl rfl)
theorem dJ25_numberOfTrailingZeros_50 : decode cJ25_numberOfTrailingZeros 50 = .ok (.bipush 16, 2) := dk_16 16 (dk_at dksJ25_numberOfTrailingZeros_2 3 rfl rfl)
theorem dJ25_numberOfTrailingZeros_52 : decode cJ25_numberOfTrailingZeros 52 = .ok (.if_icmp .le 10, 3) := dk_164 0 10 (dk_at dksJ25_numberOfTrailingZeros_2 5 rfl rfl)
theorem dJ25_numberOfTrailingZeros_55 : decode cJ25_numberOfTrailingZeros 55 = .ok (.iinc 1 4, 3) := dk_132 1 4 (dk_at dksJ25_numberOfTrailingZeros_2 8 rfl rfl)
theorem dJ25_numberOfTrailingZeros_58 : decode cJ25_numberOfTrailingZeros 58 = .ok (.iload_n 0, 1) := dk_26 (dk_at dksJ25_numberOfTrailingZeros_2 11 rfl rfl)
theorem dJ25_numberOfTrailingZeros_59 : decode cJ25_numberOfTrailingZeros 59 = .ok (.iconst 4, 1) := dk_7 (dk_at dksJ25_numberOfTrailingZeros_2 12 rfl rfl)
theorem dJ25_numberOfTrailingZeros_60 : decode cJ25_numberOfTrailingZeros 60 = .ok (.iushr, 1) := dk_124 (dk_at dksJ25_numberOfTrailingZeros_2 13 rfl rfl)
theorem dJ25_numberOfTrailingZeros_61 : decode cJ25_numberOfTrailingZeros 61 = .ok (.istore_n 0, 1) := dk_59 (dk_at dksJ25_numberOfTrailingZeros_2 14 rfl rfl)
theorem dJ25_numberOfTrailingZeros_62 : decode cJ25_numberOfTrailingZeros 62 = .ok (.iload_n 0, 1) := dk_26 (dk_at dksJ25_numberOfTrailingZeros_2 15 rfl rfl)
theorem dJ25_numberOfTrailingZeros_63 : decode cJ25_numberOfTrailingZeros 63 = .ok (.iconst 4, 1) := dk_7 (dk_at dksJ25_numberOfTrailingZeros_2 16 rfl rfl)
theorem dJ25_numberOfTrailingZeros_64 : decode cJ25_numberOfTrailingZeros 64 = .ok (.if_icmp .le 10, 3) := dk_164 0 10 (dk_at dksJ25_numberOfTrailingZeros_2 17 rfl rfl)
theorem dJ25_numberOfTrailingZeros_67 : decode cJ25_numberOfTrailingZeros 67 = .ok (.iinc 1 2, 3) := dk_132 1 2 (dk_at dksJ25_numberOfTrailingZeros_2 20 rfl rfl)
theorem dJ25_numberOfTrailingZeros_70 : decode cJ25_numberOfTrailingZeros 70 = .ok (.iload_n 0, 1) := dk_26 (dk_at dksJ25_numberOfTrailingZeros_2 23 rfl rfl)
theorem dJ25_numberOfTrailingZeros_71 : decode cJ25_numberOfTrailingZeros 71 = .ok (.iconst 2, 1) := dk_5 (dk_at dksJ25_numberOfTrailingZeros_3 0 rfl rfl)
theorem dJ25_numberOfTrailingZeros_72 : decode cJ25_numberOfTrailingZeros 72 = .ok (.iushr, 1) := dk_124 (dk_at dksJ25_numberOfTrailingZeros_3 1 rfl rfl)
theorem dJ25_numberOfTrailingZeros_73 : decode cJ25_numberOfTrailingZeros 73 = .ok (.istore_n 0, 1) := dk_59 (dk_at dksJ25_numberOfTrailingZeros_3 2 rfl rfl)
theorem dJ25_numberOfTrailingZeros_74 : decode cJ25_numberOfTrailingZeros 74 = .ok (.iload_n 1, 1) := dk_27 (dk_at dksJ25_numberOfTrailingZeros_3 3 rfl rfl)
theorem dJ25_numberOfTrailingZeros_75 : decode cJ25_numberOfTrailingZeros 75 = .ok (.iload_n 0, 1) := dk_26 (dk_at dksJ25_numberOfTrailingZeros_3 4 rfl rfl)
theorem dJ25_numberOfTrailingZeros_76 : decode cJ25_numberOfTrailingZeros 76 = .ok (.iconst 1, 1) := dk_4 (dk_at dksJ25_numberOfTrailingZeros_3 5 rfl rfl)
theorem dJ25_numberOfTrailingZeros_77 : decode cJ25_numberOfTrailingZeros 77 = .ok (.iushr, 1) := dk_124 (dk_at dksJ25_numberOfTrailingZeros_3 6 rfl rfl)
theorem dJ25_numberOfTrailingZeros_78 : decode cJ25_numberOfTrailingZeros 78 = .ok (.iadd, 1) := dk_96 (dk_at dksJ25_numberOfTrailingZeros_3 7 rfl rfl)
theorem dJ25_numberOfTrailingZeros_79 : decode cJ25_numberOfTrailingZeros 79 = .ok (.ireturn, 1) := dk_172 (dk_at dksJ25_numberOfTrailingZeros_3 8 rfl rfl)
abbrev cJ25_valueOf : ByteArray := prog_78_method_22_code
def yJ25_valueOf : MethodName := ⟨RJ25, "valueOf", "(I)Ljava/lang/Integer;"⟩
def dkwJ25_valueOf_1 : List UInt8 := [187, 0, 1, 89, 26, 183, 0, 199, 176]
abbrev dktJ25_valueOf_1 : List UInt8 := dkwJ25_valueOf_1 ++ []
def dkwJ25_valueOf_0 : List UInt8 := [26, 16, 128, 161, 0, 20, 26, 178, 0, 191, 163, 0, 13, 178, 0, 195, 26, 17, 0, 128, 96, 50, 176]
abbrev dktJ25_valueOf_0 : List UInt8 := dkwJ25_valueOf_0 ++ dktJ25_valueOf_1
theorem dksJ25_valueOf_0 : cJ25_valueOf.data.toList.drop 0 = dktJ25_valueOf_0 := by decide +kernel
theorem dksJ25_valueOf_1 : cJ25_valueOf.data.toList.drop 23 = dktJ25_valueOf_1 := dk_seg dksJ25_valueOf_0 23 rfl rfl
theorem dJ25_valueOf_0 : decode cJ25_valueOf 0 = .ok (.iload_n 0, 1) := dk_26 (dk_at dksJ25_valueOf_0 0 rfl rfl)
theorem dJ25_valueOf_1 : decode cJ25_valueOf 1 = .ok (.bipush (-128), 2) := dk_16 128 (dk_at dksJ25_valueOf_0 1 rfl rfl)
theorem dJ25_valueOf_3 : decode cJ25_valueOf 3 = .ok (.if_icmp .lt 20, 3) := dk_161 0 20 (dk_at dksJ25_valueOf_0 3 rfl rfl)
theorem dJ25_valueOf_6 : decode cJ25_valueOf 6 = .ok (.iload_n 0, 1) := dk_26 (dk_at dksJ25_valueOf_0 6 rfl rfl)
theorem dJ25_valueOf_7 : decode cJ25_valueOf 7 = .ok (.getstatic 191, 3) := dk_178 0 191 (dk_at dksJ25_valueOf_0 7 rfl rfl)
theorem dJ25_valueOf_10 : decode cJ25_valueOf 10 = .ok (.if_icmp .gt 13, 3) := dk_163 0 13 (dk_at dksJ25_valueOf_0 10 rfl rfl)
theorem dJ25_valueOf_13 : decode cJ25_valueOf 13 = .ok (.getstatic 195, 3) := dk_178 0 195 (dk_at dksJ25_valueOf_0 13 rfl rfl)
theorem dJ25_valueOf_16 : decode cJ25_valueOf 16 = .ok (.iload_n 0, 1) := dk_26 (dk_at dksJ25_valueOf_0 16 rfl rfl)
theorem dJ25_valueOf_17 : decode cJ25_valueOf 17 = .ok (.sipush 128, 3) := dk_17 0 128 (dk_at dksJ25_valueOf_0 17 rfl rfl)
theorem dJ25_valueOf_20 : decode cJ25_valueOf 20 = .ok (.iadd, 1) := dk_96 (dk_at dksJ25_valueOf_0 20 rfl rfl)
theorem dJ25_valueOf_21 : decode cJ25_valueOf 21 = .ok (.aaload, 1) := dk_50 (dk_at dksJ25_valueOf_0 21 rfl rfl)
theorem dJ25_valueOf_22 : decode cJ25_valueOf 22 = .ok (.areturn, 1) := dk_176 (dk_at dksJ25_valueOf_0 22 rfl rfl)
theorem dJ25_valueOf_23 : decode cJ25_valueOf 23 = .ok (.new 1, 3) := dk_187 0 1 (dk_at dksJ25_valueOf_1 0 rfl rfl)
theorem dJ25_valueOf_26 : decode cJ25_valueOf 26 = .ok (.dup, 1) := dk_89 (dk_at dksJ25_valueOf_1 3 rfl rfl)
theorem dJ25_valueOf_27 : decode cJ25_valueOf 27 = .ok (.iload_n 0, 1) := dk_26 (dk_at dksJ25_valueOf_1 4 rfl rfl)
theorem dJ25_valueOf_28 : decode cJ25_valueOf 28 = .ok (.invokespecial 199, 3) := dk_183 0 199 (dk_at dksJ25_valueOf_1 5 rfl rfl)
theorem dJ25_valueOf_31 : decode cJ25_valueOf 31 = .ok (.areturn, 1) := dk_176 (dk_at dksJ25_valueOf_1 8 rfl rfl)
abbrev cJ25_init : ByteArray := prog_78_method_23_code
def yJ25_init : MethodName := ⟨RJ25, "<init>", "(I)V"⟩
def dkwJ25_init_0 : List UInt8 := [42, 183, 0, 202, 42, 27, 181, 0, 205, 177]
abbrev dktJ25_init_0 : List UInt8 := dkwJ25_init_0 ++ []
theorem dksJ25_init_0 : cJ25_init.data.toList.drop 0 = dktJ25_init_0 := by decide +kernel
theorem dJ25_init_0 : decode cJ25_init 0 = .ok (.aload_n 0, 1) := dk_42 (dk_at dksJ25_init_0 0 rfl rfl)
theorem dJ25_init_1 : decode cJ25_init 1 = .ok (.invokespecial 202, 3) := dk_183 0 202 (dk_at dksJ25_init_0 1 rfl rfl)
theorem dJ25_init_4 : decode cJ25_init 4 = .ok (.aload_n 0, 1) := dk_42 (dk_at dksJ25_init_0 4 rfl rfl)
theorem dJ25_init_5 : decode cJ25_init 5 = .ok (.iload_n 1, 1) := dk_27 (dk_at dksJ25_init_0 5 rfl rfl)
theorem dJ25_init_6 : decode cJ25_init 6 = .ok (.putfield 205, 3) := dk_181 0 205 (dk_at dksJ25_init_0 6 rfl rfl)
theorem dJ25_init_9 : decode cJ25_init 9 = .ok (.return_, 1) := dk_177 (dk_at dksJ25_init_0 9 rfl rfl)
abbrev cJ25_hashCode : ByteArray := prog_78_method_32_code
def yJ25_hashCode : MethodName := ⟨RJ25, "hashCode", "()I"⟩
def dkwJ25_hashCode_0 : List UInt8 := [42, 180, 0, 205, 184, 0, 208, 172]
abbrev dktJ25_hashCode_0 : List UInt8 := dkwJ25_hashCode_0 ++ []
theorem dksJ25_hashCode_0 : cJ25_hashCode.data.toList.drop 0 = dktJ25_hashCode_0 := by decide +kernel
theorem dJ25_hashCode_0 : decode cJ25_hashCode 0 = .ok (.aload_n 0, 1) := dk_42 (dk_at dksJ25_hashCode_0 0 rfl rfl)
theorem dJ25_hashCode_1 : decode cJ25_hashCode 1 = .ok (.getfield 205, 3) := dk_180 0 205 (dk_at dksJ25_hashCode_0 1 rfl rfl)
theorem dJ25_hashCode_4 : decode cJ25_hashCode 4 = .ok (.invokestatic 208, 3) := dk_184 0 208 (dk_at dksJ25_hashCode_0 4 rfl rfl)
theorem dJ25_hashCode_7 : decode cJ25_hashCode 7 = .ok (.ireturn, 1) := dk_172 (dk_at dksJ25_hashCode_0 7 rfl rfl)
abbrev cJ25_hashCode_2 : ByteArray := prog_78_method_33_code
def yJ25_hashCode_2 : MethodName := ⟨RJ25, "hashCode", "(I)I"⟩
theorem dJ25_hashCode_2_0 : decode cJ25_hashCode_2 0 = .ok (.iload_n 0, 1) := by decide +kernel
theorem dJ25_hashCode_2_1 : decode cJ25_hashCode_2 1 = .ok (.ireturn, 1) := by decide +kernel
abbrev cJ25_compareTo : ByteArray := prog_78_method_63_code
def yJ25_compareTo : MethodName := ⟨RJ25, "compareTo", "(Ljava/lang/Object;)I"⟩
def dkwJ25_compareTo_0 : List UInt8 := [42, 43, 192, 0, 1, 182, 1, 28, 172]
abbrev dktJ25_compareTo_0 : List UInt8 := dkwJ25_compareTo_0 ++ []
theorem dksJ25_compareTo_0 : cJ25_compareTo.data.toList.drop 0 = dktJ25_compareTo_0 := by decide +kernel
theorem dJ25_compareTo_0 : decode cJ25_compareTo 0 = .ok (.aload_n 0, 1) := dk_42 (dk_at dksJ25_compareTo_0 0 rfl rfl)
theorem dJ25_compareTo_1 : decode cJ25_compareTo 1 = .ok (.aload_n 1, 1) := dk_43 (dk_at dksJ25_compareTo_0 1 rfl rfl)
theorem dJ25_compareTo_2 : decode cJ25_compareTo 2 = .ok (.checkcast 1, 3) := dk_192 0 1 (dk_at dksJ25_compareTo_0 2 rfl rfl)
theorem dJ25_compareTo_5 : decode cJ25_compareTo 5 = .ok (.invokevirtual 284, 3) := dk_182 1 28 (dk_at dksJ25_compareTo_0 5 rfl rfl)
theorem dJ25_compareTo_8 : decode cJ25_compareTo 8 = .ok (.ireturn, 1) := dk_172 (dk_at dksJ25_compareTo_0 8 rfl rfl)
abbrev cJ25_compareTo_2 : ByteArray := prog_78_method_39_code
def yJ25_compareTo_2 : MethodName := ⟨RJ25, "compareTo", "(Ljava/lang/Integer;)I"⟩
def dkwJ25_compareTo_2_0 : List UInt8 := [42, 180, 0, 205, 43, 180, 0, 205, 184, 1, 3, 172]
abbrev dktJ25_compareTo_2_0 : List UInt8 := dkwJ25_compareTo_2_0 ++ []
theorem dksJ25_compareTo_2_0 : cJ25_compareTo_2.data.toList.drop 0 = dktJ25_compareTo_2_0 := by decide +kernel
theorem dJ25_compareTo_2_0 : decode cJ25_compareTo_2 0 = .ok (.aload_n 0, 1) := dk_42 (dk_at dksJ25_compareTo_2_0 0 rfl rfl)
theorem dJ25_compareTo_2_1 : decode cJ25_compareTo_2 1 = .ok (.getfield 205, 3) := dk_180 0 205 (dk_at dksJ25_compareTo_2_0 1 rfl rfl)
theorem dJ25_compareTo_2_4 : decode cJ25_compareTo_2 4 = .ok (.aload_n 1, 1) := dk_43 (dk_at dksJ25_compareTo_2_0 4 rfl rfl)
theorem dJ25_compareTo_2_5 : decode cJ25_compareTo_2 5 = .ok (.getfield 205, 3) := dk_180 0 205 (dk_at dksJ25_compareTo_2_0 5 rfl rfl)
theorem dJ25_compareTo_2_8 : decode cJ25_compareTo_2 8 = .ok (.invokestatic 259, 3) := dk_184 1 3 (dk_at dksJ25_compareTo_2_0 8 rfl rfl)
theorem dJ25_compareTo_2_11 : decode cJ25_compareTo_2 11 = .ok (.ireturn, 1) := dk_172 (dk_at dksJ25_compareTo_2_0 11 rfl rfl)
abbrev cJ25_compare : ByteArray := prog_78_method_40_code
def yJ25_compare : MethodName := ⟨RJ25, "compare", "(II)I"⟩
def dkwJ25_compare_0 : List UInt8 := [26, 27, 162, 0, 7, 2, 167, 0, 13, 26, 27, 160, 0, 7, 3, 167, 0, 4, 4, 172]
abbrev dktJ25_compare_0 : List UInt8 := dkwJ25_compare_0 ++ []
theorem dksJ25_compare_0 : cJ25_compare.data.toList.drop 0 = dktJ25_compare_0 := by decide +kernel
theorem dJ25_compare_0 : decode cJ25_compare 0 = .ok (.iload_n 0, 1) := dk_26 (dk_at dksJ25_compare_0 0 rfl rfl)
theorem dJ25_compare_1 : decode cJ25_compare 1 = .ok (.iload_n 1, 1) := dk_27 (dk_at dksJ25_compare_0 1 rfl rfl)
theorem dJ25_compare_2 : decode cJ25_compare 2 = .ok (.if_icmp .ge 7, 3) := dk_162 0 7 (dk_at dksJ25_compare_0 2 rfl rfl)
theorem dJ25_compare_5 : decode cJ25_compare 5 = .ok (.iconst (-1), 1) := dk_2 (dk_at dksJ25_compare_0 5 rfl rfl)
theorem dJ25_compare_6 : decode cJ25_compare 6 = .ok (.goto 13, 3) := dk_167 0 13 (dk_at dksJ25_compare_0 6 rfl rfl)
theorem dJ25_compare_9 : decode cJ25_compare 9 = .ok (.iload_n 0, 1) := dk_26 (dk_at dksJ25_compare_0 9 rfl rfl)
theorem dJ25_compare_10 : decode cJ25_compare 10 = .ok (.iload_n 1, 1) := dk_27 (dk_at dksJ25_compare_0 10 rfl rfl)
theorem dJ25_compare_11 : decode cJ25_compare 11 = .ok (.if_icmp .ne 7, 3) := dk_160 0 7 (dk_at dksJ25_compare_0 11 rfl rfl)
theorem dJ25_compare_14 : decode cJ25_compare 14 = .ok (.iconst 0, 1) := dk_3 (dk_at dksJ25_compare_0 14 rfl rfl)
theorem dJ25_compare_15 : decode cJ25_compare 15 = .ok (.goto 4, 3) := dk_167 0 4 (dk_at dksJ25_compare_0 15 rfl rfl)
theorem dJ25_compare_18 : decode cJ25_compare 18 = .ok (.iconst 1, 1) := dk_4 (dk_at dksJ25_compare_0 18 rfl rfl)
theorem dJ25_compare_19 : decode cJ25_compare 19 = .ok (.ireturn, 1) := dk_172 (dk_at dksJ25_compare_0 19 rfl rfl)
abbrev cJ25_numberOfLeadingZeros : ByteArray := prog_78_method_47_code
def yJ25_numberOfLeadingZeros : MethodName := ⟨RJ25, "numberOfLeadingZeros", "(I)I"⟩
def dkwJ25_numberOfLeadingZeros_3 : List UInt8 := [5, 124, 59, 27, 26, 4, 124, 100, 172]
abbrev dktJ25_numberOfLeadingZeros_3 : List UInt8 := dkwJ25_numberOfLeadingZeros_3 ++ []
def dkwJ25_numberOfLeadingZeros_2 : List UInt8 := [124, 59, 26, 16, 16, 161, 0, 10, 132, 1, 252, 26, 7, 124, 59, 26, 7, 161, 0, 10, 132, 1, 254, 26]
abbrev dktJ25_numberOfLeadingZeros_2 : List UInt8 := dkwJ25_numberOfLeadingZeros_2 ++ dktJ25_numberOfLeadingZeros_3
def dkwJ25_numberOfLeadingZeros_1 : List UInt8 := [161, 0, 11, 132, 1, 240, 26, 16, 16, 124, 59, 26, 17, 1, 0, 161, 0, 11, 132, 1, 248, 26, 16, 8]
abbrev dktJ25_numberOfLeadingZeros_1 : List UInt8 := dkwJ25_numberOfLeadingZeros_1 ++ dktJ25_numberOfLeadingZeros_2
def dkwJ25_numberOfLeadingZeros_0 : List UInt8 := [26, 157, 0, 14, 26, 154, 0, 8, 16, 32, 167, 0, 4, 3, 172, 16, 31, 60, 26, 19, 1, 8]
abbrev dktJ25_numberOfLeadingZeros_0 : List UInt8 := dkwJ25_numberOfLeadingZeros_0 ++ dktJ25_numberOfLeadingZeros_1
theorem dksJ25_numberOfLeadingZeros_0 : cJ25_numberOfLeadingZeros.data.toList.drop 0 = dktJ25_numberOfLeadingZeros_0 := by decide +kernel
theorem dksJ25_numberOfLeadingZeros_1 : cJ25_numberOfLeadingZeros.data.toList.drop 22 = dktJ25_numberOfLeadingZeros_1 := dk_seg dksJ25_numberOfLeadingZeros_0 22 rfl rfl
theorem dksJ25_numberOfLeadingZeros_2 : cJ25_numberOfLeadingZeros.data.toList.drop 46 = dktJ25_numberOfLeadingZeros_2 := dk_seg dksJ25_numberOfLeadingZeros_1 24 rfl rfl
theorem dksJ25_numberOfLeadingZeros_3 : cJ25_numberOfLeadingZeros.data.toList.drop 70 = dktJ25_numberOfLeadingZeros_3 := dk_seg dksJ25_numberOfLeadingZeros_2 24 rfl rfl
theorem dJ25_numberOfLeadingZeros_0 : decode cJ25_numberOfLeadingZeros 0 = .ok (.iload_n 0, 1) := dk_26 (dk_at dksJ25_numberOfLeadingZeros_0 0 rfl rfl)
theorem dJ25_numberOfLeadingZeros_1 : decode cJ25_numberOfLeadingZeros 1 = .ok (.ifCond .gt 14, 3) := dk_157 0 14 (dk_at dksJ25_numberOfLeadingZeros_0 1 rfl rfl)
theorem dJ25_numberOfLeadingZeros_4 : decode cJ25_numberOfLeadingZeros 4 = .ok (.iload_n 0, 1) := dk_26 (dk_at dksJ25_numberOfLeadingZeros_0 4 rfl rfl)
theorem dJ25_numberOfLeadingZeros_5 : decode cJ25_numberOfLeadingZeros 5 = .ok (.ifCond .ne 8, 3) := dk_154 0 8 (dk_at dksJ25_numberOfLeadingZeros_0 5 rfl rfl)
theorem dJ25_numberOfLeadingZeros_8 : decode cJ25_numberOfLeadingZeros 8 = .ok (.bipush 32, 2) := dk_16 32 (dk_at dksJ25_numberOfLeadingZeros_0 8 rfl rfl)
theorem dJ25_numberOfLeadingZeros_10 : decode cJ25_numberOfLeadingZeros 10 = .ok (.goto 4, 3) := dk_167 0 4 (dk_at dksJ25_numberOfLeadingZeros_0 10 rfl rfl)
theorem dJ25_numberOfLeadingZeros_13 : decode cJ25_numberOfLeadingZeros 13 = .ok (.iconst 0, 1) := dk_3 (dk_at dksJ25_numberOfLeadingZeros_0 13 rfl rfl)
theorem dJ25_numberOfLeadingZeros_14 : decode cJ25_numberOfLeadingZeros 14 = .ok (.ireturn, 1) := dk_172 (dk_at dksJ25_numberOfLeadingZeros_0 14 rfl rfl)
theorem dJ25_numberOfLeadingZeros_15 : decode cJ25_numberOfLeadingZeros 15 = .ok (.bipush 31, 2) := dk_16 31 (dk_at dksJ25_numberOfLeadingZeros_0 15 rfl rfl)
theorem dJ25_numberOfLeadingZeros_17 : decode cJ25_numberOfLeadingZeros 17 = .ok (.istore_n 1, 1) := dk_60 (dk_at dksJ25_numberOfLeadingZeros_0 17 rfl rfl)
theorem dJ25_numberOfLeadingZeros_18 : decode cJ25_numberOfLeadingZeros 18 = .ok (.iload_n 0, 1) := dk_26 (dk_at dksJ25_numberOfLeadingZeros_0 18 rfl rfl)
theorem dJ25_numberOfLeadingZeros_19 : decode cJ25_numberOfLeadingZeros 19 = .ok (.ldc_w 264, 3) := dk_19 1 8 (dk_at dksJ25_numberOfLeadingZeros_0 19 rfl rfl)
theorem dJ25_numberOfLeadingZeros_22 : decode cJ25_numberOfLeadingZeros 22 = .ok (.if_icmp .lt 11, 3) := dk_161 0 11 (dk_at dksJ25_numberOfLeadingZeros_1 0 rfl rfl)
theorem dJ25_numberOfLeadingZeros_25 : decode cJ25_numberOfLeadingZeros 25 = .ok (.iinc 1 (-16), 3) := dk_132 1 240 (dk_at dksJ25_numberOfLeadingZeros_1 3 rfl rfl)
theorem dJ25_numberOfLeadingZeros_28 : decode cJ25_numberOfLeadingZeros 28 = .ok (.iload_n 0, 1) := dk_26 (dk_at dksJ25_numberOfLeadingZeros_1 6 rfl rfl)
theorem dJ25_numberOfLeadingZeros_29 : decode cJ25_numberOfLeadingZeros 29 = .ok (.bipush 16, 2) := dk_16 16 (dk_at dksJ25_numberOfLeadingZeros_1 7 rfl rfl)
theorem dJ25_numberOfLeadingZeros_31 : decode cJ25_numberOfLeadingZeros 31 = .ok (.iushr, 1) := dk_124 (dk_at dksJ25_numberOfLeadingZeros_1 9 rfl rfl)
theorem dJ25_numberOfLeadingZeros_32 : decode cJ25_numberOfLeadingZeros 32 = .ok (.istore_n 0, 1) := dk_59 (dk_at dksJ25_numberOfLeadingZeros_1 10 rfl rfl)
theorem dJ25_numberOfLeadingZeros_33 : decode cJ25_numberOfLeadingZeros 33 = .ok (.iload_n 0, 1) := dk_26 (dk_at dksJ25_numberOfLeadingZeros_1 11 rfl rfl)
theorem dJ25_numberOfLeadingZeros_34 : decode cJ25_numberOfLeadingZeros 34 = .ok (.sipush 256, 3) := dk_17 1 0 (dk_at dksJ25_numberOfLeadingZeros_1 12 rfl rfl)
theorem dJ25_numberOfLeadingZeros_37 : decode cJ25_numberOfLeadingZeros 37 = .ok (.if_icmp .lt 11, 3) := dk_161 0 11 (dk_at dksJ25_numberOfLeadingZeros_1 15 rfl rfl)
theorem dJ25_numberOfLeadingZeros_40 : decode cJ25_numberOfLeadingZeros 40 = .ok (.iinc 1 (-8), 3) := dk_132 1 248 (dk_at dksJ25_numberOfLeadingZeros_1 18 rfl rfl)
theorem dJ25_numberOfLeadingZeros_43 : decode cJ25_numberOfLeadingZeros 43 = .ok (.iload_n 0, 1) := dk_26 (dk_at dksJ25_numberOfLeadingZeros_1 21 rfl rfl)
theorem dJ25_numberOfLeadingZeros_44 : decode cJ25_numberOfLeadingZeros 44 = .ok (.bipush 8, 2) := dk_16 8 (dk_at dksJ25_numberOfLeadingZeros_1 22 rfl rfl)
theorem dJ25_numberOfLeadingZeros_46 : decode cJ25_numberOfLeadingZeros 46 = .ok (.iushr, 1) := dk_124 (dk_at dksJ25_numberOfLeadingZeros_2 0 rfl rfl)
theorem dJ25_numberOfLeadingZeros_47 : decode cJ25_numberOfLeadingZeros 47 = .ok (.istore_n 0, 1) := dk_59 (dk_at dksJ25_numberOfLeadingZeros_2 1 rfl rfl)
theorem dJ25_numberOfLeadingZeros_48 : decode cJ25_numberOfLeadingZeros 48 = .ok (.iload_n 0, 1) := dk_26 (dk_at dksJ25_numberOfLeadingZeros_2 2 rfl rfl)
theorem dJ25_numberOfLeadingZeros_49 : decode cJ25_numberOfLeadingZeros 49 = .ok (.bipush 16, 2) := dk_16 16 (dk_at dksJ25_numberOfLeadingZeros_2 3 rfl rfl)
theorem dJ25_numberOfLeadingZeros_51 : decode cJ25_numberOfLeadingZeros 51 = .ok (.if_icmp .lt 10, 3) := dk_161 0 10 (dk_at dksJ25_numberOfLeadingZeros_2 5 rfl rfl)
theorem dJ25_numberOfLeadingZeros_54 : decode cJ25_numberOfLeadingZeros 54 = .ok (.iinc 1 (-4), 3) := dk_132 1 252 (dk_at dksJ25_numberOfLeadingZeros_2 8 rfl rfl)
theorem dJ25_numberOfLeadingZeros_57 : decode cJ25_numberOfLeadingZeros 57 = .ok (.iload_n 0, 1) := dk_26 (dk_at dksJ25_numberOfLeadingZeros_2 11 rfl rfl)
theorem dJ25_numberOfLeadingZeros_58 : decode cJ25_numberOfLeadingZeros 58 = .ok (.iconst 4, 1) := dk_7 (dk_at dksJ25_numberOfLeadingZeros_2 12 rfl rfl)
theorem dJ25_numberOfLeadingZeros_59 : decode cJ25_numberOfLeadingZeros 59 = .ok (.iushr, 1) := dk_124 (dk_at dksJ25_numberOfLeadingZeros_2 13 rfl rfl)
theorem dJ25_numberOfLeadingZeros_60 : decode cJ25_numberOfLeadingZeros 60 = .ok (.istore_n 0, 1) := dk_59 (dk_at dksJ25_numberOfLeadingZeros_2 14 rfl rfl)
theorem dJ25_numberOfLeadingZeros_61 : decode cJ25_numberOfLeadingZeros 61 = .ok (.iload_n 0, 1) := dk_26 (dk_at dksJ25_numberOfLeadingZeros_2 15 rfl rfl)
theorem dJ25_numberOfLeadingZeros_62 : decode cJ25_numberOfLeadingZeros 62 = .ok (.iconst 4, 1) := dk_7 (dk_at dksJ25_numberOfLeadingZeros_2 16 rfl rfl)
theorem dJ25_numberOfLeadingZeros_63 : decode cJ25_numberOfLeadingZeros 63 = .ok (.if_icmp .lt 10, 3) := dk_161 0 10 (dk_at dksJ25_numberOfLeadingZeros_2 17 rfl rfl)
theorem dJ25_numberOfLeadingZeros_66 : decode cJ25_numberOfLeadingZeros 66 = .ok (.iinc 1 (-2), 3) := dk_132 1 254 (dk_at dksJ25_numberOfLeadingZeros_2 20 rfl rfl)
theorem dJ25_numberOfLeadingZeros_69 : decode cJ25_numberOfLeadingZeros 69 = .ok (.iload_n 0, 1) := dk_26 (dk_at dksJ25_numberOfLeadingZeros_2 23 rfl rfl)
theorem dJ25_numberOfLeadingZeros_70 : decode cJ25_numberOfLeadingZeros 70 = .ok (.iconst 2, 1) := dk_5 (dk_at dksJ25_numberOfLeadingZeros_3 0 rfl rfl)
theorem dJ25_numberOfLeadingZeros_71 : decode cJ25_numberOfLeadingZeros 71 = .ok (.iushr, 1) := dk_124 (dk_at dksJ25_numberOfLeadingZeros_3 1 rfl rfl)
theorem dJ25_numberOfLeadingZeros_72 : decode cJ25_numberOfLeadingZeros 72 = .ok (.istore_n 0, 1) := dk_59 (dk_at dksJ25_numberOfLeadingZeros_3 2 rfl rfl)
theorem dJ25_numberOfLeadingZeros_73 : decode cJ25_numberOfLeadingZeros 73 = .ok (.iload_n 1, 1) := dk_27 (dk_at dksJ25_numberOfLeadingZeros_3 3 rfl rfl)
theorem dJ25_numberOfLeadingZeros_74 : decode cJ25_numberOfLeadingZeros 74 = .ok (.iload_n 0, 1) := dk_26 (dk_at dksJ25_numberOfLeadingZeros_3 4 rfl rfl)
theorem dJ25_numberOfLeadingZeros_75 : decode cJ25_numberOfLeadingZeros 75 = .ok (.iconst 1, 1) := dk_4 (dk_at dksJ25_numberOfLeadingZeros_3 5 rfl rfl)
theorem dJ25_numberOfLeadingZeros_76 : decode cJ25_numberOfLeadingZeros 76 = .ok (.iushr, 1) := dk_124 (dk_at dksJ25_numberOfLeadingZeros_3 6 rfl rfl)
theorem dJ25_numberOfLeadingZeros_77 : decode cJ25_numberOfLeadingZeros 77 = .ok (.isub, 1) := dk_100 (dk_at dksJ25_numberOfLeadingZeros_3 7 rfl rfl)
theorem dJ25_numberOfLeadingZeros_78 : decode cJ25_numberOfLeadingZeros 78 = .ok (.ireturn, 1) := dk_172 (dk_at dksJ25_numberOfLeadingZeros_3 8 rfl rfl)
abbrev cJ25_rotateRight : ByteArray := prog_78_method_51_code
def yJ25_rotateRight : MethodName := ⟨RJ25, "rotateRight", "(II)I"⟩
def dkwJ25_rotateRight_0 : List UInt8 := [26, 27, 124, 26, 27, 116, 120, 128, 172]
abbrev dktJ25_rotateRight_0 : List UInt8 := dkwJ25_rotateRight_0 ++ []
theorem dksJ25_rotateRight_0 : cJ25_rotateRight.data.toList.drop 0 = dktJ25_rotateRight_0 := by decide +kernel
theorem dJ25_rotateRight_0 : decode cJ25_rotateRight 0 = .ok (.iload_n 0, 1) := dk_26 (dk_at dksJ25_rotateRight_0 0 rfl rfl)
theorem dJ25_rotateRight_1 : decode cJ25_rotateRight 1 = .ok (.iload_n 1, 1) := dk_27 (dk_at dksJ25_rotateRight_0 1 rfl rfl)
theorem dJ25_rotateRight_2 : decode cJ25_rotateRight 2 = .ok (.iushr, 1) := dk_124 (dk_at dksJ25_rotateRight_0 2 rfl rfl)
theorem dJ25_rotateRight_3 : decode cJ25_rotateRight 3 = .ok (.iload_n 0, 1) := dk_26 (dk_at dksJ25_rotateRight_0 3 rfl rfl)
theorem dJ25_rotateRight_4 : decode cJ25_rotateRight 4 = .ok (.iload_n 1, 1) := dk_27 (dk_at dksJ25_rotateRight_0 4 rfl rfl)
theorem dJ25_rotateRight_5 : decode cJ25_rotateRight 5 = .ok (.ineg, 1) := dk_116 (dk_at dksJ25_rotateRight_0 5 rfl rfl)
theorem dJ25_rotateRight_6 : decode cJ25_rotateRight 6 = .ok (.ishl, 1) := dk_120 (dk_at dksJ25_rotateRight_0 6 rfl rfl)
theorem dJ25_rotateRight_7 : decode cJ25_rotateRight 7 = .ok (.ior, 1) := dk_128 (dk_at dksJ25_rotateRight_0 7 rfl rfl)
theorem dJ25_rotateRight_8 : decode cJ25_rotateRight 8 = .ok (.ireturn, 1) := dk_172 (dk_at dksJ25_rotateRight_0 8 rfl rfl)
abbrev cJ25_bitCount : ByteArray := prog_78_method_49_code
def yJ25_bitCount : MethodName := ⟨RJ25, "bitCount", "(I)I"⟩
def dkwJ25_bitCount_2 : List UInt8 := [26, 16, 63, 126, 172]
abbrev dktJ25_bitCount_2 : List UInt8 := dkwJ25_bitCount_2 ++ []
def dkwJ25_bitCount_1 : List UInt8 := [26, 26, 7, 124, 96, 19, 1, 11, 126, 59, 26, 26, 16, 8, 124, 96, 59, 26, 26, 16, 16, 124, 96, 59]
abbrev dktJ25_bitCount_1 : List UInt8 := dkwJ25_bitCount_1 ++ dktJ25_bitCount_2
def dkwJ25_bitCount_0 : List UInt8 := [26, 26, 4, 124, 19, 1, 9, 126, 100, 59, 26, 19, 1, 10, 126, 26, 5, 124, 19, 1, 10, 126, 96, 59]
abbrev dktJ25_bitCount_0 : List UInt8 := dkwJ25_bitCount_0 ++ dktJ25_bitCount_1
theorem dksJ25_bitCount_0 : cJ25_bitCount.data.toList.drop 0 = dktJ25_bitCount_0 := by decide +kernel
theorem dksJ25_bitCount_1 : cJ25_bitCount.data.toList.drop 24 = dktJ25_bitCount_1 := dk_seg dksJ25_bitCount_0 24 rfl rfl
theorem dksJ25_bitCount_2 : cJ25_bitCount.data.toList.drop 48 = dktJ25_bitCount_2 := dk_seg dksJ25_bitCount_1 24 rfl rfl
theorem dJ25_bitCount_0 : decode cJ25_bitCount 0 = .ok (.iload_n 0, 1) := dk_26 (dk_at dksJ25_bitCount_0 0 rfl rfl)
theorem dJ25_bitCount_1 : decode cJ25_bitCount 1 = .ok (.iload_n 0, 1) := dk_26 (dk_at dksJ25_bitCount_0 1 rfl rfl)
theorem dJ25_bitCount_2 : decode cJ25_bitCount 2 = .ok (.iconst 1, 1) := dk_4 (dk_at dksJ25_bitCount_0 2 rfl rfl)
theorem dJ25_bitCount_3 : decode cJ25_bitCount 3 = .ok (.iushr, 1) := dk_124 (dk_at dksJ25_bitCount_0 3 rfl rfl)
theorem dJ25_bitCount_4 : decode cJ25_bitCount 4 = .ok (.ldc_w 265, 3) := dk_19 1 9 (dk_at dksJ25_bitCount_0 4 rfl rfl)
theorem dJ25_bitCount_7 : decode cJ25_bitCount 7 = .ok (.iand, 1) := dk_126 (dk_at dksJ25_bitCount_0 7 rfl rfl)
theorem dJ25_bitCount_8 : decode cJ25_bitCount 8 = .ok (.isub, 1) := dk_100 (dk_at dksJ25_bitCount_0 8 rfl rfl)
theorem dJ25_bitCount_9 : decode cJ25_bitCount 9 = .ok (.istore_n 0, 1) := dk_59 (dk_at dksJ25_bitCount_0 9 rfl rfl)
theorem dJ25_bitCount_10 : decode cJ25_bitCount 10 = .ok (.iload_n 0, 1) := dk_26 (dk_at dksJ25_bitCount_0 10 rfl rfl)
theorem dJ25_bitCount_11 : decode cJ25_bitCount 11 = .ok (.ldc_w 266, 3) := dk_19 1 10 (dk_at dksJ25_bitCount_0 11 rfl rfl)
theorem dJ25_bitCount_14 : decode cJ25_bitCount 14 = .ok (.iand, 1) := dk_126 (dk_at dksJ25_bitCount_0 14 rfl rfl)
theorem dJ25_bitCount_15 : decode cJ25_bitCount 15 = .ok (.iload_n 0, 1) := dk_26 (dk_at dksJ25_bitCount_0 15 rfl rfl)
theorem dJ25_bitCount_16 : decode cJ25_bitCount 16 = .ok (.iconst 2, 1) := dk_5 (dk_at dksJ25_bitCount_0 16 rfl rfl)
theorem dJ25_bitCount_17 : decode cJ25_bitCount 17 = .ok (.iushr, 1) := dk_124 (dk_at dksJ25_bitCount_0 17 rfl rfl)
theorem dJ25_bitCount_18 : decode cJ25_bitCount 18 = .ok (.ldc_w 266, 3) := dk_19 1 10 (dk_at dksJ25_bitCount_0 18 rfl rfl)
theorem dJ25_bitCount_21 : decode cJ25_bitCount 21 = .ok (.iand, 1) := dk_126 (dk_at dksJ25_bitCount_0 21 rfl rfl)
theorem dJ25_bitCount_22 : decode cJ25_bitCount 22 = .ok (.iadd, 1) := dk_96 (dk_at dksJ25_bitCount_0 22 rfl rfl)
theorem dJ25_bitCount_23 : decode cJ25_bitCount 23 = .ok (.istore_n 0, 1) := dk_59 (dk_at dksJ25_bitCount_0 23 rfl rfl)
theorem dJ25_bitCount_24 : decode cJ25_bitCount 24 = .ok (.iload_n 0, 1) := dk_26 (dk_at dksJ25_bitCount_1 0 rfl rfl)
theorem dJ25_bitCount_25 : decode cJ25_bitCount 25 = .ok (.iload_n 0, 1) := dk_26 (dk_at dksJ25_bitCount_1 1 rfl rfl)
theorem dJ25_bitCount_26 : decode cJ25_bitCount 26 = .ok (.iconst 4, 1) := dk_7 (dk_at dksJ25_bitCount_1 2 rfl rfl)
theorem dJ25_bitCount_27 : decode cJ25_bitCount 27 = .ok (.iushr, 1) := dk_124 (dk_at dksJ25_bitCount_1 3 rfl rfl)
theorem dJ25_bitCount_28 : decode cJ25_bitCount 28 = .ok (.iadd, 1) := dk_96 (dk_at dksJ25_bitCount_1 4 rfl rfl)
theorem dJ25_bitCount_29 : decode cJ25_bitCount 29 = .ok (.ldc_w 267, 3) := dk_19 1 11 (dk_at dksJ25_bitCount_1 5 rfl rfl)
theorem dJ25_bitCount_32 : decode cJ25_bitCount 32 = .ok (.iand, 1) := dk_126 (dk_at dksJ25_bitCount_1 8 rfl rfl)
theorem dJ25_bitCount_33 : decode cJ25_bitCount 33 = .ok (.istore_n 0, 1) := dk_59 (dk_at dksJ25_bitCount_1 9 rfl rfl)
theorem dJ25_bitCount_34 : decode cJ25_bitCount 34 = .ok (.iload_n 0, 1) := dk_26 (dk_at dksJ25_bitCount_1 10 rfl rfl)
theorem dJ25_bitCount_35 : decode cJ25_bitCount 35 = .ok (.iload_n 0, 1) := dk_26 (dk_at dksJ25_bitCount_1 11 rfl rfl)
theorem dJ25_bitCount_36 : decode cJ25_bitCount 36 = .ok (.bipush 8, 2) := dk_16 8 (dk_at dksJ25_bitCount_1 12 rfl rfl)
theorem dJ25_bitCount_38 : decode cJ25_bitCount 38 = .ok (.iushr, 1) := dk_124 (dk_at dksJ25_bitCount_1 14 rfl rfl)
theorem dJ25_bitCount_39 : decode cJ25_bitCount 39 = .ok (.iadd, 1) := dk_96 (dk_at dksJ25_bitCount_1 15 rfl rfl)
theorem dJ25_bitCount_40 : decode cJ25_bitCount 40 = .ok (.istore_n 0, 1) := dk_59 (dk_at dksJ25_bitCount_1 16 rfl rfl)
theorem dJ25_bitCount_41 : decode cJ25_bitCount 41 = .ok (.iload_n 0, 1) := dk_26 (dk_at dksJ25_bitCount_1 17 rfl rfl)
theorem dJ25_bitCount_42 : decode cJ25_bitCount 42 = .ok (.iload_n 0, 1) := dk_26 (dk_at dksJ25_bitCount_1 18 rfl rfl)
theorem dJ25_bitCount_43 : decode cJ25_bitCount 43 = .ok (.bipush 16, 2) := dk_16 16 (dk_at dksJ25_bitCount_1 19 rfl rfl)
theorem dJ25_bitCount_45 : decode cJ25_bitCount 45 = .ok (.iushr, 1) := dk_124 (dk_at dksJ25_bitCount_1 21 rfl rfl)
theorem dJ25_bitCount_46 : decode cJ25_bitCount 46 = .ok (.iadd, 1) := dk_96 (dk_at dksJ25_bitCount_1 22 rfl rfl)
theorem dJ25_bitCount_47 : decode cJ25_bitCount 47 = .ok (.istore_n 0, 1) := dk_59 (dk_at dksJ25_bitCount_1 23 rfl rfl)
theorem dJ25_bitCount_48 : decode cJ25_bitCount 48 = .ok (.iload_n 0, 1) := dk_26 (dk_at dksJ25_bitCount_2 0 rfl rfl)
theorem dJ25_bitCount_49 : decode cJ25_bitCount 49 = .ok (.bipush 63, 2) := dk_16 63 (dk_at dksJ25_bitCount_2 1 rfl rfl)
theorem dJ25_bitCount_51 : decode cJ25_bitCount 51 = .ok (.iand, 1) := dk_126 (dk_at dksJ25_bitCount_2 3 rfl rfl)
theorem dJ25_bitCount_52 : decode cJ25_bitCount 52 = .ok (.ireturn, 1) := dk_172 (dk_at dksJ25_bitCount_2 4 rfl rfl)
theorem q476 : (Jvm.Cond.initialized "java/lang/Integer") ∈ lw_all := lw_g (lw_at lw_m1 84 rfl) rfl
theorem q2037 : (Jvm.Cond.selects "java/lang/Integer" ({ cls := "java/lang/Object", name := "getClass", desc := "()Ljava/lang/Class;" } : Jvm.MethodName) ({ cls := "java/lang/Object", name := "getClass", desc := "()Ljava/lang/Class;" } : Jvm.MethodName)) ∈ lw_all := lw_g (lw_at lw_m7 205 rfl) rfl
theorem q2820 : (Jvm.Cond.static ({ cls := "java/lang/Integer", name := "stringSize", desc := "(I)I" } : Jvm.MethodName)) ∈ lw_all := lw_g (lw_at lw_m11 28 rfl) rfl
theorem q2821 : (Jvm.Cond.code ({ cls := "java/lang/Integer", name := "stringSize", desc := "(I)I" } : Jvm.MethodName) prog_78_method_13_code (4 : Nat) (Option.some Jvm.ClassFile.FieldType.int)) ∈ lw_all := lw_g (lw_at lw_m11 29 rfl) rfl
theorem q2823 : (Jvm.Cond.static ({ cls := "java/lang/Integer", name := "getChars", desc := "(II[B)I" } : Jvm.MethodName)) ∈ lw_all := lw_g (lw_at lw_m11 31 rfl) rfl
theorem q2824 : (Jvm.Cond.code ({ cls := "java/lang/Integer", name := "getChars", desc := "(II[B)I" } : Jvm.MethodName) prog_78_method_12_code (7 : Nat) (Option.some Jvm.ClassFile.FieldType.int)) ∈ lw_all := lw_g (lw_at lw_m11 32 rfl) rfl
theorem q2825 : (Jvm.Cond.fieldLink "java/lang/Integer" (83 : Nat) "java/lang/Integer" "DigitOnes" "[B") ∈ lw_all := lw_g (lw_at lw_m11 33 rfl) rfl
theorem q2826 : (Jvm.Cond.laysStatic "java/lang/Integer" "DigitOnes" "[B") ∈ lw_tbl := lw_at lw_m11 34 rfl
theorem q2827 : (Jvm.Cond.fieldLink "java/lang/Integer" (87 : Nat) "java/lang/Integer" "DigitTens" "[B") ∈ lw_all := lw_g (lw_at lw_m11 35 rfl) rfl
theorem q2828 : (Jvm.Cond.laysStatic "java/lang/Integer" "DigitTens" "[B") ∈ lw_tbl := lw_at lw_m11 36 rfl
theorem q3147 : (Jvm.Cond.selects "java/lang/Integer" ({ cls := "java/lang/Object", name := "equals", desc := "(Ljava/lang/Object;)Z" } : Jvm.MethodName) ({ cls := "java/lang/Integer", name := "equals", desc := "(Ljava/lang/Object;)Z" } : Jvm.MethodName)) ∈ lw_all := lw_g (lw_at lw_m12 115 rfl) rfl
theorem q3148 : (Jvm.Cond.instanceMethod ({ cls := "java/lang/Integer", name := "equals", desc := "(Ljava/lang/Object;)Z" } : Jvm.MethodName)) ∈ lw_all := lw_g (lw_at lw_m12 116 rfl) rfl
theorem q3149 : (Jvm.Cond.code ({ cls := "java/lang/Integer", name := "equals", desc := "(Ljava/lang/Object;)Z" } : Jvm.MethodName) prog_78_method_34_code (2 : Nat) (Option.some Jvm.ClassFile.FieldType.boolean)) ∈ lw_all := lw_g (lw_at lw_m12 117 rfl) rfl
theorem q3150 : (Jvm.Cond.classLink "java/lang/Integer" (1 : Nat) "java/lang/Integer") ∈ lw_all := lw_g (lw_at lw_m12 118 rfl) rfl
theorem q3151 : (Jvm.Cond.methodLink "java/lang/Integer" (211 : Nat) ({ cls := "java/lang/Integer", name := "intValue", desc := "()I" } : Jvm.MethodName)) ∈ lw_all := lw_g (lw_at lw_m12 119 rfl) rfl
theorem q3152 : (Jvm.Cond.instanceMethod ({ cls := "java/lang/Integer", name := "intValue", desc := "()I" } : Jvm.MethodName)) ∈ lw_all := lw_g (lw_at lw_m12 120 rfl) rfl
theorem q3153 : (Jvm.Cond.selects "java/lang/Integer" ({ cls := "java/lang/Integer", name := "intValue", desc := "()I" } : Jvm.MethodName) ({ cls := "java/lang/Integer", name := "intValue", desc := "()I" } : Jvm.MethodName)) ∈ lw_all := lw_g (lw_at lw_m12 121 rfl) rfl
theorem q3154 : (Jvm.Cond.code ({ cls := "java/lang/Integer", name := "intValue", desc := "()I" } : Jvm.MethodName) prog_78_method_27_code (1 : Nat) (Option.some Jvm.ClassFile.FieldType.int)) ∈ lw_all := lw_g (lw_at lw_m12 122 rfl) rfl
theorem q3401 : (Jvm.Cond.static ({ cls := "java/lang/Integer", name := "numberOfTrailingZeros", desc := "(I)I" } : Jvm.MethodName)) ∈ lw_all := lw_g (lw_at lw_m13 129 rfl) rfl
theorem q3402 : (Jvm.Cond.code ({ cls := "java/lang/Integer", name := "numberOfTrailingZeros", desc := "(I)I" } : Jvm.MethodName) prog_78_method_48_code (2 : Nat) (Option.some Jvm.ClassFile.FieldType.int)) ∈ lw_all := lw_g (lw_at lw_m13 130 rfl) rfl
theorem q3403 : (Jvm.Cond.constant "java/lang/Integer" (264 : Nat) (65536 : Int32)) ∈ lw_all := lw_g (lw_at lw_m13 131 rfl) rfl
theorem q3560 : (Jvm.Cond.static ({ cls := "java/lang/Integer", name := "valueOf", desc := "(I)Ljava/lang/Integer;" } : Jvm.MethodName)) ∈ lw_all := lw_g (lw_at lw_m14 48 rfl) rfl
theorem q3561 : (Jvm.Cond.code ({ cls := "java/lang/Integer", name := "valueOf", desc := "(I)Ljava/lang/Integer;" } : Jvm.MethodName) prog_78_method_22_code (1 : Nat) (Option.some (Jvm.ClassFile.FieldType.object "java/lang/Integer"))) ∈ lw_all := lw_g (lw_at lw_m14 49 rfl) rfl
theorem q3562 : (Jvm.Cond.fieldLink "java/lang/Integer" (191 : Nat) "java/lang/Integer$IntegerCache" "high" "I") ∈ lw_all := lw_g (lw_at lw_m14 50 rfl) rfl
theorem q3564 : (Jvm.Cond.fieldLink "java/lang/Integer" (195 : Nat) "java/lang/Integer$IntegerCache" "cache" "[Ljava/lang/Integer;") ∈ lw_all := lw_g (lw_at lw_m14 52 rfl) rfl
theorem q3566 : (Jvm.Cond.instantiable "java/lang/Integer" (1 : Nat)) ∈ lw_all := lw_g (lw_at lw_m14 54 rfl) rfl
theorem q3567 : (Jvm.Cond.methodLink "java/lang/Integer" (199 : Nat) ({ cls := "java/lang/Integer", name := "<init>", desc := "(I)V" } : Jvm.MethodName)) ∈ lw_all := lw_g (lw_at lw_m14 55 rfl) rfl
theorem q3568 : (Jvm.Cond.instanceMethod ({ cls := "java/lang/Integer", name := "<init>", desc := "(I)V" } : Jvm.MethodName)) ∈ lw_all := lw_g (lw_at lw_m14 56 rfl) rfl
theorem q3569 : (Jvm.Cond.code ({ cls := "java/lang/Integer", name := "<init>", desc := "(I)V" } : Jvm.MethodName) prog_78_method_23_code (2 : Nat) (Option.none : Option Jvm.ClassFile.FieldType)) ∈ lw_all := lw_g (lw_at lw_m14 57 rfl) rfl
theorem q3570 : (Jvm.Cond.methodLink "java/lang/Integer" (202 : Nat) ({ cls := "java/lang/Number", name := "<init>", desc := "()V" } : Jvm.MethodName)) ∈ lw_all := lw_g (lw_at lw_m14 58 rfl) rfl
theorem q3574 : (Jvm.Cond.fieldLink "java/lang/Integer" (205 : Nat) "java/lang/Integer" "value" "I") ∈ lw_all := lw_g (lw_at lw_m14 62 rfl) rfl
theorem q3575 : (Jvm.Cond.laysFinal "java/lang/Integer" "java/lang/Integer" "value" "I") ∈ lw_all := lw_g (lw_at lw_m14 63 rfl) rfl
theorem q3576 : (Jvm.Cond.soleField "java/lang/Integer" "value") ∈ lw_all := lw_g (lw_at lw_m14 64 rfl) rfl
theorem q3577 : (Jvm.Cond.superclass "java/lang/Integer" "java/lang/Number") ∈ lw_all := lw_g (lw_at lw_m14 65 rfl) rfl
theorem q3665 : (Jvm.Cond.selects "java/lang/Integer" ({ cls := "java/lang/Object", name := "hashCode", desc := "()I" } : Jvm.MethodName) ({ cls := "java/lang/Integer", name := "hashCode", desc := "()I" } : Jvm.MethodName)) ∈ lw_all := lw_g (lw_at lw_m14 153 rfl) rfl
theorem q3666 : (Jvm.Cond.instanceMethod ({ cls := "java/lang/Integer", name := "hashCode", desc := "()I" } : Jvm.MethodName)) ∈ lw_all := lw_g (lw_at lw_m14 154 rfl) rfl
theorem q3667 : (Jvm.Cond.code ({ cls := "java/lang/Integer", name := "hashCode", desc := "()I" } : Jvm.MethodName) prog_78_method_32_code (1 : Nat) (Option.some Jvm.ClassFile.FieldType.int)) ∈ lw_all := lw_g (lw_at lw_m14 155 rfl) rfl
theorem q3668 : (Jvm.Cond.methodLink "java/lang/Integer" (208 : Nat) ({ cls := "java/lang/Integer", name := "hashCode", desc := "(I)I" } : Jvm.MethodName)) ∈ lw_all := lw_g (lw_at lw_m14 156 rfl) rfl
theorem q3669 : (Jvm.Cond.static ({ cls := "java/lang/Integer", name := "hashCode", desc := "(I)I" } : Jvm.MethodName)) ∈ lw_all := lw_g (lw_at lw_m14 157 rfl) rfl
theorem q3670 : (Jvm.Cond.code ({ cls := "java/lang/Integer", name := "hashCode", desc := "(I)I" } : Jvm.MethodName) prog_78_method_33_code (1 : Nat) (Option.some Jvm.ClassFile.FieldType.int)) ∈ lw_all := lw_g (lw_at lw_m14 158 rfl) rfl
theorem q3838 : (Jvm.Cond.castable "java/lang/Integer" "java/lang/Comparable") ∈ lw_tbl := lw_at lw_m15 86 rfl
theorem q3839 : (Jvm.Cond.selects "java/lang/Integer" ({ cls := "java/lang/Comparable", name := "compareTo", desc := "(Ljava/lang/Object;)I" } : Jvm.MethodName) ({ cls := "java/lang/Integer", name := "compareTo", desc := "(Ljava/lang/Object;)I" } : Jvm.MethodName)) ∈ lw_all := lw_g (lw_at lw_m15 87 rfl) rfl
theorem q3840 : (Jvm.Cond.unhidden "java/lang/Integer" "compareTo" "(Ljava/lang/Object;)I") ∈ lw_tbl := lw_at lw_m15 88 rfl
theorem q3841 : (Jvm.Cond.instanceMethod ({ cls := "java/lang/Integer", name := "compareTo", desc := "(Ljava/lang/Object;)I" } : Jvm.MethodName)) ∈ lw_all := lw_g (lw_at lw_m15 89 rfl) rfl
theorem q3842 : (Jvm.Cond.publicMethod ({ cls := "java/lang/Integer", name := "compareTo", desc := "(Ljava/lang/Object;)I" } : Jvm.MethodName)) ∈ lw_tbl := lw_at lw_m15 90 rfl
theorem q3843 : (Jvm.Cond.code ({ cls := "java/lang/Integer", name := "compareTo", desc := "(Ljava/lang/Object;)I" } : Jvm.MethodName) prog_78_method_63_code (2 : Nat) (Option.some Jvm.ClassFile.FieldType.int)) ∈ lw_all := lw_g (lw_at lw_m15 91 rfl) rfl
theorem q3844 : (Jvm.Cond.methodLink "java/lang/Integer" (284 : Nat) ({ cls := "java/lang/Integer", name := "compareTo", desc := "(Ljava/lang/Integer;)I" } : Jvm.MethodName)) ∈ lw_all := lw_g (lw_at lw_m15 92 rfl) rfl
theorem q3845 : (Jvm.Cond.instanceMethod ({ cls := "java/lang/Integer", name := "compareTo", desc := "(Ljava/lang/Integer;)I" } : Jvm.MethodName)) ∈ lw_all := lw_g (lw_at lw_m15 93 rfl) rfl
theorem q3846 : (Jvm.Cond.selects "java/lang/Integer" ({ cls := "java/lang/Integer", name := "compareTo", desc := "(Ljava/lang/Integer;)I" } : Jvm.MethodName) ({ cls := "java/lang/Integer", name := "compareTo", desc := "(Ljava/lang/Integer;)I" } : Jvm.MethodName)) ∈ lw_all := lw_g (lw_at lw_m15 94 rfl) rfl
theorem q3847 : (Jvm.Cond.code ({ cls := "java/lang/Integer", name := "compareTo", desc := "(Ljava/lang/Integer;)I" } : Jvm.MethodName) prog_78_method_39_code (2 : Nat) (Option.some Jvm.ClassFile.FieldType.int)) ∈ lw_all := lw_g (lw_at lw_m15 95 rfl) rfl
theorem q3848 : (Jvm.Cond.methodLink "java/lang/Integer" (259 : Nat) ({ cls := "java/lang/Integer", name := "compare", desc := "(II)I" } : Jvm.MethodName)) ∈ lw_all := lw_g (lw_at lw_m15 96 rfl) rfl
theorem q3849 : (Jvm.Cond.static ({ cls := "java/lang/Integer", name := "compare", desc := "(II)I" } : Jvm.MethodName)) ∈ lw_all := lw_g (lw_at lw_m15 97 rfl) rfl
theorem q3850 : (Jvm.Cond.code ({ cls := "java/lang/Integer", name := "compare", desc := "(II)I" } : Jvm.MethodName) prog_78_method_40_code (2 : Nat) (Option.some Jvm.ClassFile.FieldType.int)) ∈ lw_all := lw_g (lw_at lw_m15 98 rfl) rfl
theorem q3953 : (Jvm.Cond.static ({ cls := "java/lang/Integer", name := "numberOfLeadingZeros", desc := "(I)I" } : Jvm.MethodName)) ∈ lw_all := lw_g (lw_at lw_m15 201 rfl) rfl
theorem q3954 : (Jvm.Cond.code ({ cls := "java/lang/Integer", name := "numberOfLeadingZeros", desc := "(I)I" } : Jvm.MethodName) prog_78_method_47_code (2 : Nat) (Option.some Jvm.ClassFile.FieldType.int)) ∈ lw_all := lw_g (lw_at lw_m15 202 rfl) rfl
theorem q5205 : (Jvm.Cond.static ({ cls := "java/lang/Integer", name := "rotateRight", desc := "(II)I" } : Jvm.MethodName)) ∈ lw_all := lw_g (lw_at lw_m21 13 rfl) rfl
theorem q5206 : (Jvm.Cond.code ({ cls := "java/lang/Integer", name := "rotateRight", desc := "(II)I" } : Jvm.MethodName) prog_78_method_51_code (2 : Nat) (Option.some Jvm.ClassFile.FieldType.int)) ∈ lw_all := lw_g (lw_at lw_m21 14 rfl) rfl
theorem q5961 : (Jvm.Cond.static ({ cls := "java/lang/Integer", name := "bitCount", desc := "(I)I" } : Jvm.MethodName)) ∈ lw_all := lw_g (lw_at lw_m24 49 rfl) rfl
theorem q5962 : (Jvm.Cond.code ({ cls := "java/lang/Integer", name := "bitCount", desc := "(I)I" } : Jvm.MethodName) prog_78_method_49_code (1 : Nat) (Option.some Jvm.ClassFile.FieldType.int)) ∈ lw_all := lw_g (lw_at lw_m24 50 rfl) rfl
theorem q5963 : (Jvm.Cond.constant "java/lang/Integer" (265 : Nat) (1431655765 : Int32)) ∈ lw_all := lw_g (lw_at lw_m24 51 rfl) rfl
theorem q5964 : (Jvm.Cond.constant "java/lang/Integer" (266 : Nat) (858993459 : Int32)) ∈ lw_all := lw_g (lw_at lw_m24 52 rfl) rfl
theorem q5965 : (Jvm.Cond.constant "java/lang/Integer" (267 : Nat) (252645135 : Int32)) ∈ lw_all := lw_g (lw_at lw_m24 53 rfl) rfl
theorem q9689 : (Jvm.Cond.castable "java/lang/Integer" "java/lang/Object") ∈ lw_tbl := lw_at lw_m39 177 rfl
theorem in_J25 : ∀ w ∈ wsJ250, w ∈ lw_all := lw_in wsJ250 [3575] (by decide +kernel) (by decide +kernel)
