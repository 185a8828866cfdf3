/-! jdk/internal/misc/Unsafe -/
set_option maxRecDepth 100000
def RJ32 : String := "jdk/internal/misc/Unsafe"
abbrev cJ32_getLongUnaligned : ByteArray := prog_135_method_334_code
def yJ32_getLongUnaligned : MethodName := ⟨RJ32, "getLongUnaligned", "(Ljava/lang/Object;J)J"⟩
def dkwJ32_getLongUnaligned_7 : List UInt8 := [182, 0, 39, 184, 2, 197, 173]
abbrev dktJ32_getLongUnaligned_7 : List UInt8 := dkwJ32_getLongUnaligned_7 ++ []
def dkwJ32_getLongUnaligned_6 : List UInt8 := [20, 2, 195, 97, 182, 0, 39, 42, 43, 32, 20, 2, 190, 97, 182, 0, 39, 42, 43, 32, 20, 2, 184, 97]
abbrev dktJ32_getLongUnaligned_6 : List UInt8 := dkwJ32_getLongUnaligned_6 ++ dktJ32_getLongUnaligned_7
def dkwJ32_getLongUnaligned_5 : List UInt8 := [43, 32, 20, 1, 93, 97, 182, 0, 39, 42, 43, 32, 20, 0, 205, 97, 182, 0, 39, 42, 43, 32]
abbrev dktJ32_getLongUnaligned_5 : List UInt8 := dkwJ32_getLongUnaligned_5 ++ dktJ32_getLongUnaligned_6
def dkwJ32_getLongUnaligned_4 : List UInt8 := [43, 32, 182, 0, 39, 42, 43, 32, 10, 97, 182, 0, 39, 42, 43, 32, 20, 0, 203, 97, 182, 0, 39, 42]
abbrev dktJ32_getLongUnaligned_4 : List UInt8 := dkwJ32_getLongUnaligned_4 ++ dktJ32_getLongUnaligned_5
def dkwJ32_getLongUnaligned_3 : List UInt8 := [43, 32, 20, 0, 205, 97, 182, 0, 47, 42, 43, 32, 20, 2, 190, 97, 182, 0, 47, 184, 2, 192, 173, 42]
abbrev dktJ32_getLongUnaligned_3 : List UInt8 := dkwJ32_getLongUnaligned_3 ++ dktJ32_getLongUnaligned_4
def dkwJ32_getLongUnaligned_2 : List UInt8 := [10, 127, 9, 148, 154, 0, 43, 42, 43, 32, 182, 0, 47, 42, 43, 32, 20, 0, 203, 97, 182, 0, 47, 42]
abbrev dktJ32_getLongUnaligned_2 : List UInt8 := dkwJ32_getLongUnaligned_2 ++ dktJ32_getLongUnaligned_3
def dkwJ32_getLongUnaligned_1 : List UInt8 := [154, 0, 23, 42, 43, 32, 182, 0, 17, 42, 43, 32, 20, 0, 205, 97, 182, 0, 17, 184, 2, 186, 173, 32]
abbrev dktJ32_getLongUnaligned_1 : List UInt8 := dkwJ32_getLongUnaligned_1 ++ dktJ32_getLongUnaligned_2
def dkwJ32_getLongUnaligned_0 : List UInt8 := [32, 20, 2, 184, 127, 9, 148, 154, 0, 10, 42, 43, 32, 182, 0, 27, 173, 32, 20, 1, 93, 127, 9, 148]
abbrev dktJ32_getLongUnaligned_0 : List UInt8 := dkwJ32_getLongUnaligned_0 ++ dktJ32_getLongUnaligned_1
theorem dksJ32_getLongUnaligned_0 : cJ32_getLongUnaligned.data.toList.drop 0 = dktJ32_getLongUnaligned_0 := by decide +kernel
theorem dksJ32_getLongUnaligned_1 : cJ32_getLongUnaligned.data.toList.drop 24 = dktJ32_getLongUnaligned_1 := dk_seg dksJ32_getLongUnaligned_0 24 rfl rfl
theorem dksJ32_getLongUnaligned_2 : cJ32_getLongUnaligned.data.toList.drop 48 = dktJ32_getLongUnaligned_2 := dk_seg dksJ32_getLongUnaligned_1 24 rfl rfl
theorem dksJ32_getLongUnaligned_3 : cJ32_getLongUnaligned.data.toList.drop 72 = dktJ32_getLongUnaligned_3 := dk_seg dksJ32_getLongUnaligned_2 24 rfl rfl
theorem dksJ32_getLongUnaligned_4 : cJ32_getLongUnaligned.data.toList.drop 96 = dktJ32_getLongUnaligned_4 := dk_seg dksJ32_getLongUnaligned_3 24 rfl rfl
theorem dksJ32_getLongUnaligned_5 : cJ32_getLongUnaligned.data.toList.drop 120 = dktJ32_getLongUnaligned_5 := dk_seg dksJ32_getLongUnaligned_4 24 rfl rfl
theorem dksJ32_getLongUnaligned_6 : cJ32_getLongUnaligned.data.toList.drop 142 = dktJ32_getLongUnaligned_6 := dk_seg dksJ32_getLongUnaligned_5 22 rfl rfl
theorem dksJ32_getLongUnaligned_7 : cJ32_getLongUnaligned.data.toList.drop 166 = dktJ32_getLongUnaligned_7 := dk_seg dksJ32_getLongUnaligned_6 24 rfl rfl
theorem dJ32_getLongUnaligned_0 : decode cJ32_getLongUnaligned 0 = .ok (.lload_n 2, 1) := dk_32 (dk_at dksJ32_getLongUnaligned_0 0 rfl rfl)
theorem dJ32_getLongUnaligned_1 : decode cJ32_getLongUnaligned 1 = .ok (.ldc2_w 696, 3) := dk_20 2 184 (dk_at dksJ32_getLongUnaligned_0 1 rfl rfl)
theorem dJ32_getLongUnaligned_4 : decode cJ32_getLongUnaligned 4 = .ok (.land, 1) := dk_127 (dk_at dksJ32_getLongUnaligned_0 4 rfl rfl)
theorem dJ32_getLongUnaligned_5 : decode cJ32_getLongUnaligned 5 = .ok (.lconst 0, 1) := dk_9 (dk_at dksJ32_getLongUnaligned_0 5 rfl rfl)
theorem dJ32_getLongUnaligned_6 : decode cJ32_getLongUnaligned 6 = .ok (.lcmp, 1) := dk_148 (dk_at dksJ32_getLongUnaligned_0 6 rfl rfl)
theorem dJ32_getLongUnaligned_7 : decode cJ32_getLongUnaligned 7 = .ok (.ifCond .ne 10, 3) := dk_154 0 10 (dk_at dksJ32_getLongUnaligned_0 7 rfl rfl)
theorem dJ32_getLongUnaligned_10 : decode cJ32_getLongUnaligned 10 = .ok (.aload_n 0, 1) := dk_42 (dk_at dksJ32_getLongUnaligned_0 10 rfl rfl)
theorem dJ32_getLongUnaligned_11 : decode cJ32_getLongUnaligned 11 = .ok (.aload_n 1, 1) := dk_43 (dk_at dksJ32_getLongUnaligned_0 11 rfl rfl)
theorem dJ32_getLongUnaligned_12 : decode cJ32_getLongUnaligned 12 = .ok (.lload_n 2, 1) := dk_32 (dk_at dksJ32_getLongUnaligned_0 12 rfl rfl)
theorem dJ32_getLongUnaligned_13 : decode cJ32_getLongUnaligned 13 = .ok (.invokevirtual 27, 3) := dk_182 0 27 (dk_at dksJ32_getLongUnaligned_0 13 rfl rfl)
theorem dJ32_getLongUnaligned_16 : decode cJ32_getLongUnaligned 16 = .ok (.lreturn, 1) := dk_173 (dk_at dksJ32_getLongUnaligned_0 16 rfl rfl)
theorem dJ32_getLongUnaligned_17 : decode cJ32_getLongUnaligned 17 = .ok (.lload_n 2, 1) := dk_32 (dk_at dksJ32_getLongUnaligned_0 17 rfl rfl)
theorem dJ32_getLongUnaligned_18 : decode cJ32_getLongUnaligned 18 = .ok (.ldc2_w 349, 3) := dk_20 1 93 (dk_at dksJ32_getLongUnaligned_0 18 rfl rfl)
theorem dJ32_getLongUnaligned_21 : decode cJ32_getLongUnaligned 21 = .ok (.land, 1) := dk_127 (dk_at dksJ32_getLongUnaligned_0 21 rfl rfl)
theorem dJ32_getLongUnaligned_22 : decode cJ32_getLongUnaligned 22 = .ok (.lconst 0, 1) := dk_9 (dk_at dksJ32_getLongUnaligned_0 22 rfl rfl)
theorem dJ32_getLongUnaligned_23 : decode cJ32_getLongUnaligned 23 = .ok (.lcmp, 1) := dk_148 (dk_at dksJ32_getLongUnaligned_0 23 rfl rfl)
theorem dJ32_getLongUnaligned_24 : decode cJ32_getLongUnaligned 24 = .ok (.ifCond .ne 23, 3) := dk_154 0 23 (dk_at dksJ32_getLongUnaligned_1 0 rfl rfl)
theorem dJ32_getLongUnaligned_27 : decode cJ32_getLongUnaligned 27 = .ok (.aload_n 0, 1) := dk_42 (dk_at dksJ32_getLongUnaligned_1 3 rfl rfl)
theorem dJ32_getLongUnaligned_28 : decode cJ32_getLongUnaligned 28 = .ok (.aload_n 1, 1) := dk_43 (dk_at dksJ32_getLongUnaligned_1 4 rfl rfl)
theorem dJ32_getLongUnaligned_29 : decode cJ32_getLongUnaligned 29 = .ok (.lload_n 2, 1) := dk_32 (dk_at dksJ32_getLongUnaligned_1 5 rfl rfl)
theorem dJ32_getLongUnaligned_30 : decode cJ32_getLongUnaligned 30 = .ok (.invokevirtual 17, 3) := dk_182 0 17 (dk_at dksJ32_getLongUnaligned_1 6 rfl rfl)
theorem dJ32_getLongUnaligned_33 : decode cJ32_getLongUnaligned 33 = .ok (.aload_n 0, 1) := dk_42 (dk_at dksJ32_getLongUnaligned_1 9 rfl rfl)
theorem dJ32_getLongUnaligned_34 : decode cJ32_getLongUnaligned 34 = .ok (.aload_n 1, 1) := dk_43 (dk_at dksJ32_getLongUnaligned_1 10 rfl rfl)
theorem dJ32_getLongUnaligned_35 : decode cJ32_getLongUnaligned 35 = .ok (.lload_n 2, 1) := dk_32 (dk_at dksJ32_getLongUnaligned_1 11 rfl rfl)
theorem dJ32_getLongUnaligned_36 : decode cJ32_getLongUnaligned 36 = .ok (.ldc2_w 205, 3) := dk_20 0 205 (dk_at dksJ32_getLongUnaligned_1 12 rfl rfl)
theorem dJ32_getLongUnaligned_39 : decode cJ32_getLongUnaligned 39 = .ok (.ladd, 1) := dk_97 (dk_at dksJ32_getLongUnaligned_1 15 rfl rfl)
theorem dJ32_getLongUnaligned_40 : decode cJ32_getLongUnaligned 40 = .ok (.invokevirtual 17, 3) := dk_182 0 17 (dk_at dksJ32_getLongUnaligned_1 16 rfl rfl)
theorem dJ32_getLongUnaligned_43 : decode cJ32_getLongUnaligned 43 = .ok (.invokestatic 698, 3) := dk_184 2 186 (dk_at dksJ32_getLongUnaligned_1 19 rfl rfl)
theorem dJ32_getLongUnaligned_46 : decode cJ32_getLongUnaligned 46 = .ok (.lreturn, 1) := dk_173 (dk_at dksJ32_getLongUnaligned_1 22 rfl rfl)
theorem dJ32_getLongUnaligned_47 : decode cJ32_getLongUnaligned 47 = .ok (.lload_n 2, 1) := dk_32 (dk_at dksJ32_getLongUnaligned_1 23 rfl rfl)
theorem dJ32_getLongUnaligned_48 : decode cJ32_getLongUnaligned 48 = .ok (.lconst 1, 1) := dk_10 (dk_at dksJ32_getLongUnaligned_2 0 rfl rfl)
theorem dJ32_getLongUnaligned_49 : decode cJ32_getLongUnaligned 49 = .ok (.land, 1) := dk_127 (dk_at dksJ32_getLongUnaligned_2 1 rfl rfl)
theorem dJ32_getLongUnaligned_50 : decode cJ32_getLongUnaligned 50 = .ok (.lconst 0, 1) := dk_9 (dk_at dksJ32_getLongUnaligned_2 2 rfl rfl)
theorem dJ32_getLongUnaligned_51 : decode cJ32_getLongUnaligned 51 = .ok (.lcmp, 1) := dk_148 (dk_at dksJ32_getLongUnaligned_2 3 rfl rfl)
theorem dJ32_getLongUnaligned_52 : decode cJ32_getLongUnaligned 52 = .ok (.ifCond .ne 43, 3) := dk_154 0 43 (dk_at dksJ32_getLongUnaligned_2 4 rfl rfl)
theorem dJ32_getLongUnaligned_55 : decode cJ32_getLongUnaligned 55 = .ok (.aload_n 0, 1) := dk_42 (dk_at dksJ32_getLongUnaligned_2 7 rfl rfl)
theorem dJ32_getLongUnaligned_56 : decode cJ32_getLongUnaligned 56 = .ok (.aload_n 1, 1) := dk_43 (dk_at dksJ32_getLongUnaligned_2 8 rfl rfl)
theorem dJ32_getLongUnaligned_57 : decode cJ32_getLongUnaligned 57 = .ok (.lload_n 2, 1) := dk_32 (dk_at dksJ32_getLongUnaligned_2 9 rfl rfl)
theorem dJ32_getLongUnaligned_58 : decode cJ32_getLongUnaligned 58 = .ok (.invokevirtual 47, 3) := dk_182 0 47 (dk_at dksJ32_getLongUnaligned_2 10 rfl rfl)
theorem dJ32_getLongUnaligned_61 : decode cJ32_getLongUnaligned 61 = .ok (.aload_n 0, 1) := dk_42 (dk_at dksJ32_getLongUnaligned_2 13 rfl rfl)
theorem dJ32_getLongUnaligned_62 : decode cJ32_getLongUnaligned 62 = .ok (.aload_n 1, 1) := dk_43 (dk_at dksJ32_getLongUnaligned_2 14 rfl rfl)
theorem dJ32_getLongUnaligned_63 : decode cJ32_getLongUnaligned 63 = .ok (.lload_n 2, 1) := dk_32 (dk_at dksJ32_getLongUnaligned_2 15 rfl rfl)
theorem dJ32_getLongUnaligned_64 : decode cJ32_getLongUnaligned 64 = .ok (.ldc2_w 203, 3) := dk_20 0 203 (dk_at dksJ32_getLongUnaligned_2 16 rfl rfl)
theorem dJ32_getLongUnaligned_67 : decode cJ32_getLongUnaligned 67 = .ok (.ladd, 1) := dk_97 (dk_at dksJ32_getLongUnaligned_2 19 rfl rfl)
theorem dJ32_getLongUnaligned_68 : decode cJ32_getLongUnaligned 68 = .ok (.invokevirtual 47, 3) := dk_182 0 47 (dk_at dksJ32_getLongUnaligned_2 20 rfl rfl)
theorem dJ32_getLongUnaligned_71 : decode cJ32_getLongUnaligned 71 = .ok (.aload_n 0, 1) := dk_42 (dk_at dksJ32_getLongUnaligned_2 23 rfl rfl)
theorem dJ32_getLongUnaligned_72 : decode cJ32_getLongUnaligned 72 = .ok (.aload_n 1, 1) := dk_43 (dk_at dksJ32_getLongUnaligned_3 0 rfl rfl)
theorem dJ32_getLongUnaligned_73 : decode cJ32_getLongUnaligned 73 = .ok (.lload_n 2, 1) := dk_32 (dk_at dksJ32_getLongUnaligned_3 1 rfl rfl)
theorem dJ32_getLongUnaligned_74 : decode cJ32_getLongUnaligned 74 = .ok (.ldc2_w 205, 3) := dk_20 0 205 (dk_at dksJ32_getLongUnaligned_3 2 rfl rfl)
theorem dJ32_getLongUnaligned_77 : decode cJ32_getLongUnaligned 77 = .ok (.ladd, 1) := dk_97 (dk_at dksJ32_getLongUnaligned_3 5 rfl rfl)
theorem dJ32_getLongUnaligned_78 : decode cJ32_getLongUnaligned 78 = .ok (.invokevirtual 47, 3) := dk_182 0 47 (dk_at dksJ32_getLongUnaligned_3 6 rfl rfl)
theorem dJ32_getLongUnaligned_81 : decode cJ32_getLongUnaligned 81 = .ok (.aload_n 0, 1) := dk_42 (dk_at dksJ32_getLongUnaligned_3 9 rfl rfl)
theorem dJ32_getLongUnaligned_82 : decode cJ32_getLongUnaligned 82 = .ok (.aload_n 1, 1) := dk_43 (dk_at dksJ32_getLongUnaligned_3 10 rfl rfl)
theorem dJ32_getLongUnaligned_83 : decode cJ32_getLongUnaligned 83 = .ok (.lload_n 2, 1) := dk_32 (dk_at dksJ32_getLongUnaligned_3 11 rfl rfl)
theorem dJ32_getLongUnaligned_84 : decode cJ32_getLongUnaligned 84 = .ok (.ldc2_w 702, 3) := dk_20 2 190 (dk_at dksJ32_getLongUnaligned_3 12 rfl rfl)
theorem dJ32_getLongUnaligned_87 : decode cJ32_getLongUnaligned 87 = .ok (.ladd, 1) := dk_97 (dk_at dksJ32_getLongUnaligned_3 15 rfl rfl)
theorem dJ32_getLongUnaligned_88 : decode cJ32_getLongUnaligned 88 = .ok (.invokevirtual 47, 3) := dk_182 0 47 (dk_at dksJ32_getLongUnaligned_3 16 rfl rfl)
theorem dJ32_getLongUnaligned_91 : decode cJ32_getLongUnaligned 91 = .ok (.invokestatic 704, 3) := dk_184 2 192 (dk_at dksJ32_getLongUnaligned_3 19 rfl rfl)
theorem dJ32_getLongUnaligned_94 : decode cJ32_getLongUnaligned 94 = .ok (.lreturn, 1) := dk_173 (dk_at dksJ32_getLongUnaligned_3 22 rfl rfl)
theorem dJ32_getLongUnaligned_95 : decode cJ32_getLongUnaligned 95 = .ok (.aload_n 0, 1) := dk_42 (dk_at dksJ32_getLongUnaligned_3 23 rfl rfl)
theorem dJ32_getLongUnaligned_96 : decode cJ32_getLongUnaligned 96 = .ok (.aload_n 1, 1) := dk_43 (dk_at dksJ32_getLongUnaligned_4 0 rfl rfl)
theorem dJ32_getLongUnaligned_97 : decode cJ32_getLongUnaligned 97 = .ok (.lload_n 2, 1) := dk_32 (dk_at dksJ32_getLongUnaligned_4 1 rfl rfl)
theorem dJ32_getLongUnaligned_98 : decode cJ32_getLongUnaligned 98 = .ok (.invokevirtual 39, 3) := dk_182 0 39 (dk_at dksJ32_getLongUnaligned_4 2 rfl rfl)
theorem dJ32_getLongUnaligned_101 : decode cJ32_getLongUnaligned 101 = .ok (.aload_n 0, 1) := dk_42 (dk_at dksJ32_getLongUnaligned_4 5 rfl rfl)
theorem dJ32_getLongUnaligned_102 : decode cJ32_getLongUnaligned 102 = .ok (.aload_n 1, 1) := dk_43 (dk_at dksJ32_getLongUnaligned_4 6 rfl rfl)
theorem dJ32_getLongUnaligned_103 : decode cJ32_getLongUnaligned 103 = .ok (.lload_n 2, 1) := dk_32 (dk_at dksJ32_getLongUnaligned_4 7 rfl rfl)
theorem dJ32_getLongUnaligned_104 : decode cJ32_getLongUnaligned 104 = .ok (.lconst 1, 1) := dk_10 (dk_at dksJ32_getLongUnaligned_4 8 rfl rfl)
theorem dJ32_getLongUnaligned_105 : decode cJ32_getLongUnaligned 105 = .ok (.ladd, 1) := dk_97 (dk_at dksJ32_getLongUnaligned_4 9 rfl rfl)
theorem dJ32_getLongUnaligned_106 : decode cJ32_getLongUnaligned 106 = .ok (.invokevirtual 39, 3) := dk_182 0 39 (dk_at dksJ32_getLongUnaligned_4 10 rfl rfl)
theorem dJ32_getLongUnaligned_109 : decode cJ32_getLongUnaligned 109 = .ok (.aload_n 0, 1) := dk_42 (dk_at dksJ32_getLongUnaligned_4 13 rfl rfl)
theorem dJ32_getLongUnaligned_110 : decode cJ32_getLongUnaligned 110 = .ok (.aload_n 1, 1) := dk_43 (dk_at dksJ32_getLongUnaligned_4 14 rfl rfl)
theorem dJ32_getLongUnaligned_111 : decode cJ32_getLongUnaligned 111 = .ok (.lload_n 2, 1) := dk_32 (dk_at dksJ32_getLongUnaligned_4 15 rfl rfl)
theorem dJ32_getLongUnaligned_112 : decode cJ32_getLongUnaligned 112 = .ok (.ldc2_w 203, 3) := dk_20 0 203 (dk_at dksJ32_getLongUnaligned_4 16 rfl rfl)
theorem dJ32_getLongUnaligned_115 : decode cJ32_getLongUnaligned 115 = .ok (.ladd, 1) := dk_97 (dk_at dksJ32_getLongUnaligned_4 19 rfl rfl)
theorem dJ32_getLongUnaligned_116 : decode cJ32_getLongUnaligned 116 = .ok (.invokevirtual 39, 3) := dk_182 0 39 (dk_at dksJ32_getLongUnaligned_4 20 rfl rfl)
theorem dJ32_getLongUnaligned_119 : decode cJ32_getLongUnaligned 119 = .ok (.aload_n 0, 1) := dk_42 (dk_at dksJ32_getLongUnaligned_4 23 rfl rfl)
theorem dJ32_getLongUnaligned_120 : decode cJ32_getLongUnaligned 120 = .ok (.aload_n 1, 1) := dk_43 (dk_at dksJ32_getLongUnaligned_5 0 rfl rfl)
theorem dJ32_getLongUnaligned_121 : decode cJ32_getLongUnaligned 121 = .ok (.lload_n 2, 1) := dk_32 (dk_at dksJ32_getLongUnaligned_5 1 rfl rfl)
theorem dJ32_getLongUnaligned_122 : decode cJ32_getLongUnaligned 122 = .ok (.ldc2_w 349, 3) := dk_20 1 93 (dk_at dksJ32_getLongUnaligned_5 2 rfl rfl)
theorem dJ32_getLongUnaligned_125 : decode cJ32_getLongUnaligned 125 = .ok (.ladd, 1) := dk_97 (dk_at dksJ32_getLongUnaligned_5 5 rfl rfl)
theorem dJ32_getLongUnaligned_126 : decode cJ32_getLongUnaligned 126 = .ok (.invokevirtual 39, 3) := dk_182 0 39 (dk_at dksJ32_getLongUnaligned_5 6 rfl rfl)
theorem dJ32_getLongUnaligned_129 : decode cJ32_getLongUnaligned 129 = .ok (.aload_n 0, 1) := dk_42 (dk_at dksJ32_getLongUnaligned_5 9 rfl rfl)
theorem dJ32_getLongUnaligned_130 : decode cJ32_getLongUnaligned 130 = .ok (.aload_n 1, 1) := dk_43 (dk_at dksJ32_getLongUnaligned_5 10 rfl rfl)
theorem dJ32_getLongUnaligned_131 : decode cJ32_getLongUnaligned 131 = .ok (.lload_n 2, 1) := dk_32 (dk_at dksJ32_getLongUnaligned_5 11 rfl rfl)
theorem dJ32_getLongUnaligned_132 : decode cJ32_getLongUnaligned 132 = .ok (.ldc2_w 205, 3) := dk_20 0 205 (dk_at dksJ32_getLongUnaligned_5 12 rfl rfl)
theorem dJ32_getLongUnaligned_135 : decode cJ32_getLongUnaligned 135 = .ok (.ladd, 1) := dk_97 (dk_at dksJ32_getLongUnaligned_5 15 rfl rfl)
theorem dJ32_getLongUnaligned_136 : decode cJ32_getLongUnaligned 136 = .ok (.invokevirtual 39, 3) := dk_182 0 39 (dk_at dksJ32_getLongUnaligned_5 16 rfl rfl)
theorem dJ32_getLongUnaligned_139 : decode cJ32_getLongUnaligned 139 = .ok (.aload_n 0, 1) := dk_42 (dk_at dksJ32_getLongUnaligned_5 19 rfl rfl)
theorem dJ32_getLongUnaligned_140 : decode cJ32_getLongUnaligned 140 = .ok (.aload_n 1, 1) := dk_43 (dk_at dksJ32_getLongUnaligned_5 20 rfl rfl)
theorem dJ32_getLongUnaligned_141 : decode cJ32_getLongUnaligned 141 = .ok (.lload_n 2, 1) := dk_32 (dk_at dksJ32_getLongUnaligned_5 21 rfl rfl)
theorem dJ32_getLongUnaligned_142 : decode cJ32_getLongUnaligned 142 = .ok (.ldc2_w 707, 3) := dk_20 2 195 (dk_at dksJ32_getLongUnaligned_6 0 rfl rfl)
theorem dJ32_getLongUnaligned_145 : decode cJ32_getLongUnaligned 145 = .ok (.ladd, 1) := dk_97 (dk_at dksJ32_getLongUnaligned_6 3 rfl rfl)
theorem dJ32_getLongUnaligned_146 : decode cJ32_getLongUnaligned 146 = .ok (.invokevirtual 39, 3) := dk_182 0 39 (dk_at dksJ32_getLongUnaligned_6 4 rfl rfl)
theorem dJ32_getLongUnaligned_149 : decode cJ32_getLongUnaligned 149 = .ok (.aload_n 0, 1) := dk_42 (dk_at dksJ32_getLongUnaligned_6 7 rfl rfl)
theorem dJ32_getLongUnaligned_150 : decode cJ32_getLongUnaligned 150 = .ok (.aload_n 1, 1) := dk_43 (dk_at dksJ32_getLongUnaligned_6 8 rfl rfl)
theorem dJ32_getLongUnaligned_151 : decode cJ32_getLongUnaligned 151 = .ok (.lload_n 2, 1) := dk_32 (dk_at dksJ32_getLongUnaligned_6 9 rfl rfl)
theorem dJ32_getLongUnaligned_152 : decode cJ32_getLongUnaligned 152 = .ok (.ldc2_w 702, 3) := dk_20 2 190 (dk_at dksJ32_getLongUnaligned_6 10 rfl rfl)
theorem dJ32_getLongUnaligned_155 : decode cJ32_getLongUnaligned 155 = .ok (.ladd, 1) := dk_97 (dk_at dksJ32_getLongUnaligned_6 13 rfl rfl)
theorem dJ32_getLongUnaligned_156 : decode cJ32_getLongUnaligned 156 = .ok (.invokevirtual 39, 3) := dk_182 0 39 (dk_at dksJ32_getLongUnaligned_6 14 rfl rfl)
theorem dJ32_getLongUnaligned_159 : decode cJ32_getLongUnaligned 159 = .ok (.aload_n 0, 1) := dk_42 (dk_at dksJ32_getLongUnaligned_6 17 rfl rfl)
theorem dJ32_getLongUnaligned_160 : decode cJ32_getLongUnaligned 160 = .ok (.aload_n 1, 1) := dk_43 (dk_at dksJ32_getLongUnaligned_6 18 rfl rfl)
theorem dJ32_getLongUnaligned_161 : decode cJ32_getLongUnaligned 161 = .ok (.lload_n 2, 1) := dk_32 (dk_at dksJ32_getLongUnaligned_6 19 rfl rfl)
theorem dJ32_getLongUnaligned_162 : decode cJ32_getLongUnaligned 162 = .ok (.ldc2_w 696, 3) := dk_20 2 184 (dk_at dksJ32_getLongUnaligned_6 20 rfl rfl)
theorem dJ32_getLongUnaligned_165 : decode cJ32_getLongUnaligned 165 = .ok (.ladd, 1) := dk_97 (dk_at dksJ32_getLongUnaligned_6 23 rfl rfl)
theorem dJ32_getLongUnaligned_166 : decode cJ32_getLongUnaligned 166 = .ok (.invokevirtual 39, 3) := dk_182 0 39 (dk_at dksJ32_getLongUnaligned_7 0 rfl rfl)
theorem dJ32_getLongUnaligned_169 : decode cJ32_getLongUnaligned 169 = .ok (.invokestatic 709, 3) := dk_184 2 197 (dk_at dksJ32_getLongUnaligned_7 3 rfl rfl)
theorem dJ32_getLongUnaligned_172 : decode cJ32_getLongUnaligned 172 = .ok (.lreturn, 1) := dk_173 (dk_at dksJ32_getLongUnaligned_7 6 rfl rfl)
abbrev cJ32_makeLong : ByteArray := prog_135_method_353_code
def yJ32_makeLong : MethodName := ⟨RJ32, "makeLong", "(II)J"⟩
def dkwJ32_makeLong_1 : List UInt8 := [173]
abbrev dktJ32_makeLong_1 : List UInt8 := dkwJ32_makeLong_1 ++ []
def dkwJ32_makeLong_0 : List UInt8 := [26, 184, 3, 23, 16, 32, 3, 184, 3, 16, 121, 27, 184, 3, 23, 16, 32, 16, 32, 184, 3, 16, 121, 129]
abbrev dktJ32_makeLong_0 : List UInt8 := dkwJ32_makeLong_0 ++ dktJ32_makeLong_1
theorem dksJ32_makeLong_0 : cJ32_makeLong.data.toList.drop 0 = dktJ32_makeLong_0 := by decide +kernel
theorem dksJ32_makeLong_1 : cJ32_makeLong.data.toList.drop 24 = dktJ32_makeLong_1 := dk_seg dksJ32_makeLong_0 24 rfl rfl
theorem dJ32_makeLong_0 : decode cJ32_makeLong 0 = .ok (.iload_n 0, 1) := dk_26 (dk_at dksJ32_makeLong_0 0 rfl rfl)
theorem dJ32_makeLong_1 : decode cJ32_makeLong 1 = .ok (.invokestatic 791, 3) := dk_184 3 23 (dk_at dksJ32_makeLong_0 1 rfl rfl)
theorem dJ32_makeLong_4 : decode cJ32_makeLong 4 = .ok (.bipush 32, 2) := dk_16 32 (dk_at dksJ32_makeLong_0 4 rfl rfl)
theorem dJ32_makeLong_6 : decode cJ32_makeLong 6 = .ok (.iconst 0, 1) := dk_3 (dk_at dksJ32_makeLong_0 6 rfl rfl)
theorem dJ32_makeLong_7 : decode cJ32_makeLong 7 = .ok (.invokestatic 784, 3) := dk_184 3 16 (dk_at dksJ32_makeLong_0 7 rfl rfl)
theorem dJ32_makeLong_10 : decode cJ32_makeLong 10 = .ok (.lshl, 1) := dk_121 (dk_at dksJ32_makeLong_0 10 rfl rfl)
theorem dJ32_makeLong_11 : decode cJ32_makeLong 11 = .ok (.iload_n 1, 1) := dk_27 (dk_at dksJ32_makeLong_0 11 rfl rfl)
theorem dJ32_makeLong_12 : decode cJ32_makeLong 12 = .ok (.invokestatic 791, 3) := dk_184 3 23 (dk_at dksJ32_makeLong_0 12 rfl rfl)
theorem dJ32_makeLong_15 : decode cJ32_makeLong 15 = .ok (.bipush 32, 2) := dk_16 32 (dk_at dksJ32_makeLong_0 15 rfl rfl)
theorem dJ32_makeLong_17 : decode cJ32_makeLong 17 = .ok (.bipush 32, 2) := dk_16 32 (dk_at dksJ32_makeLong_0 17 rfl rfl)
theorem dJ32_makeLong_19 : decode cJ32_makeLong 19 = .ok (.invokestatic 784, 3) := dk_184 3 16 (dk_at dksJ32_makeLong_0 19 rfl rfl)
theorem dJ32_makeLong_22 : decode cJ32_makeLong 22 = .ok (.lshl, 1) := dk_121 (dk_at dksJ32_makeLong_0 22 rfl rfl)
theorem dJ32_makeLong_23 : decode cJ32_makeLong 23 = .ok (.lor, 1) := dk_129 (dk_at dksJ32_makeLong_0 23 rfl rfl)
theorem dJ32_makeLong_24 : decode cJ32_makeLong 24 = .ok (.lreturn, 1) := dk_173 (dk_at dksJ32_makeLong_1 0 rfl rfl)
abbrev cJ32_toUnsignedLong : ByteArray := prog_135_method_370_code
def yJ32_toUnsignedLong : MethodName := ⟨RJ32, "toUnsignedLong", "(I)J"⟩
def dkwJ32_toUnsignedLong_0 : List UInt8 := [26, 133, 20, 3, 44, 127, 173]
abbrev dktJ32_toUnsignedLong_0 : List UInt8 := dkwJ32_toUnsignedLong_0 ++ []
theorem dksJ32_toUnsignedLong_0 : cJ32_toUnsignedLong.data.toList.drop 0 = dktJ32_toUnsignedLong_0 := by decide +kernel
theorem dJ32_toUnsignedLong_0 : decode cJ32_toUnsignedLong 0 = .ok (.iload_n 0, 1) := dk_26 (dk_at dksJ32_toUnsignedLong_0 0 rfl rfl)
theorem dJ32_toUnsignedLong_1 : decode cJ32_toUnsignedLong 1 = .ok (.i2l, 1) := dk_133 (dk_at dksJ32_toUnsignedLong_0 1 rfl rfl)
theorem dJ32_toUnsignedLong_2 : decode cJ32_toUnsignedLong 2 = .ok (.ldc2_w 812, 3) := dk_20 3 44 (dk_at dksJ32_toUnsignedLong_0 2 rfl rfl)
theorem dJ32_toUnsignedLong_5 : decode cJ32_toUnsignedLong 5 = .ok (.land, 1) := dk_127 (dk_at dksJ32_toUnsignedLong_0 5 rfl rfl)
theorem dJ32_toUnsignedLong_6 : decode cJ32_toUnsignedLong 6 = .ok (.lreturn, 1) := dk_173 (dk_at dksJ32_toUnsignedLong_0 6 rfl rfl)
abbrev cJ32_pickPos : ByteArray := prog_135_method_350_code
def yJ32_pickPos : MethodName := ⟨RJ32, "pickPos", "(II)I"⟩
def dkwJ32_pickPos_0 : List UInt8 := [178, 1, 95, 153, 0, 9, 26, 27, 100, 167, 0, 4, 27, 172]
abbrev dktJ32_pickPos_0 : List UInt8 := dkwJ32_pickPos_0 ++ []
theorem dksJ32_pickPos_0 : cJ32_pickPos.data.toList.drop 0 = dktJ32_pickPos_0 := by decide +kernel
theorem dJ32_pickPos_0 : decode cJ32_pickPos 0 = .ok (.getstatic 351, 3) := dk_178 1 95 (dk_at dksJ32_pickPos_0 0 rfl rfl)
theorem dJ32_pickPos_3 : decode cJ32_pickPos 3 = .ok (.ifCond .eq 9, 3) := dk_153 0 9 (dk_at dksJ32_pickPos_0 3 rfl rfl)
theorem dJ32_pickPos_6 : decode cJ32_pickPos 6 = .ok (.iload_n 0, 1) := dk_26 (dk_at dksJ32_pickPos_0 6 rfl rfl)
theorem dJ32_pickPos_7 : decode cJ32_pickPos 7 = .ok (.iload_n 1, 1) := dk_27 (dk_at dksJ32_pickPos_0 7 rfl rfl)
theorem dJ32_pickPos_8 : decode cJ32_pickPos 8 = .ok (.isub, 1) := dk_100 (dk_at dksJ32_pickPos_0 8 rfl rfl)
theorem dJ32_pickPos_9 : decode cJ32_pickPos 9 = .ok (.goto 4, 3) := dk_167 0 4 (dk_at dksJ32_pickPos_0 9 rfl rfl)
theorem dJ32_pickPos_12 : decode cJ32_pickPos 12 = .ok (.iload_n 1, 1) := dk_27 (dk_at dksJ32_pickPos_0 12 rfl rfl)
theorem dJ32_pickPos_13 : decode cJ32_pickPos 13 = .ok (.ireturn, 1) := dk_172 (dk_at dksJ32_pickPos_0 13 rfl rfl)
abbrev cJ32_makeLong_2 : ByteArray := prog_135_method_352_code
def yJ32_makeLong_2 : MethodName := ⟨RJ32, "makeLong", "(SSSS)J"⟩
def dkwJ32_makeLong_2_2 : List UInt8 := [121, 129, 173]
abbrev dktJ32_makeLong_2_2 : List UInt8 := dkwJ32_makeLong_2_2 ++ []
def dkwJ32_makeLong_2_1 : List UInt8 := [28, 184, 3, 20, 16, 48, 16, 32, 184, 3, 16, 121, 129, 29, 184, 3, 20, 16, 48, 16, 48, 184, 3, 16]
abbrev dktJ32_makeLong_2_1 : List UInt8 := dkwJ32_makeLong_2_1 ++ dktJ32_makeLong_2_2
def dkwJ32_makeLong_2_0 : List UInt8 := [26, 184, 3, 20, 16, 48, 3, 184, 3, 16, 121, 27, 184, 3, 20, 16, 48, 16, 16, 184, 3, 16, 121, 129]
abbrev dktJ32_makeLong_2_0 : List UInt8 := dkwJ32_makeLong_2_0 ++ dktJ32_makeLong_2_1
theorem dksJ32_makeLong_2_0 : cJ32_makeLong_2.data.toList.drop 0 = dktJ32_makeLong_2_0 := by decide +kernel
theorem dksJ32_makeLong_2_1 : cJ32_makeLong_2.data.toList.drop 24 = dktJ32_makeLong_2_1 := dk_seg dksJ32_makeLong_2_0 24 rfl rfl
theorem dksJ32_makeLong_2_2 : cJ32_makeLong_2.data.toList.drop 48 = dktJ32_makeLong_2_2 := dk_seg dksJ32_makeLong_2_1 24 rfl rfl
theorem dJ32_makeLong_2_0 : decode cJ32_makeLong_2 0 = .ok (.iload_n 0, 1) := dk_26 (dk_at dksJ32_makeLong_2_0 0 rfl rfl)
theorem dJ32_makeLong_2_1 : decode cJ32_makeLong_2 1 = .ok (.invokestatic 788, 3) := dk_184 3 20 (dk_at dksJ32_makeLong_2_0 1 rfl rfl)
theorem dJ32_makeLong_2_4 : decode cJ32_makeLong_2 4 = .ok (.bipush 48, 2) := dk_16 48 (dk_at dksJ32_makeLong_2_0 4 rfl rfl)
theorem dJ32_makeLong_2_6 : decode cJ32_makeLong_2 6 = .ok (.iconst 0, 1) := dk_3 (dk_at dksJ32_makeLong_2_0 6 rfl rfl)
theorem dJ32_makeLong_2_7 : decode cJ32_makeLong_2 7 = .ok (.invokestatic 784, 3) := dk_184 3 16 (dk_at dksJ32_makeLong_2_0 7 rfl rfl)
theorem dJ32_makeLong_2_10 : decode cJ32_makeLong_2 10 = .ok (.lshl, 1) := dk_121 (dk_at dksJ32_makeLong_2_0 10 rfl rfl)
theorem dJ32_makeLong_2_11 : decode cJ32_makeLong_2 11 = .ok (.iload_n 1, 1) := dk_27 (dk_at dksJ32_makeLong_2_0 11 rfl rfl)
theorem dJ32_makeLong_2_12 : decode cJ32_makeLong_2 12 = .ok (.invokestatic 788, 3) := dk_184 3 20 (dk_at dksJ32_makeLong_2_0 12 rfl rfl)
theorem dJ32_makeLong_2_15 : decode cJ32_makeLong_2 15 = .ok (.bipush 48, 2) := dk_16 48 (dk_at dksJ32_makeLong_2_0 15 rfl rfl)
theorem dJ32_makeLong_2_17 : decode cJ32_makeLong_2 17 = .ok (.bipush 16, 2) := dk_16 16 (dk_at dksJ32_makeLong_2_0 17 rfl rfl)
theorem dJ32_makeLong_2_19 : decode cJ32_makeLong_2 19 = .ok (.invokestatic 784, 3) := dk_184 3 16 (dk_at dksJ32_makeLong_2_0 19 rfl rfl)
theorem dJ32_makeLong_2_22 : decode cJ32_makeLong_2 22 = .ok (.lshl, 1) := dk_121 (dk_at dksJ32_makeLong_2_0 22 rfl rfl)
theorem dJ32_makeLong_2_23 : decode cJ32_makeLong_2 23 = .ok (.lor, 1) := dk_129 (dk_at dksJ32_makeLong_2_0 23 rfl rfl)
theorem dJ32_makeLong_2_24 : decode cJ32_makeLong_2 24 = .ok (.iload_n 2, 1) := dk_28 (dk_at dksJ32_makeLong_2_1 0 rfl rfl)
theorem dJ32_makeLong_2_25 : decode cJ32_makeLong_2 25 = .ok (.invokestatic 788, 3) := dk_184 3 20 (dk_at dksJ32_makeLong_2_1 1 rfl rfl)
theorem dJ32_makeLong_2_28 : decode cJ32_makeLong_2 28 = .ok (.bipush 48, 2) := dk_16 48 (dk_at dksJ32_makeLong_2_1 4 rfl rfl)
theorem dJ32_makeLong_2_30 : decode cJ32_makeLong_2 30 = .ok (.bipush 32, 2) := dk_16 32 (dk_at dksJ32_makeLong_2_1 6 rfl rfl)
theorem dJ32_makeLong_2_32 : decode cJ32_makeLong_2 32 = .ok (.invokestatic 784, 3) := dk_184 3 16 (dk_at dksJ32_makeLong_2_1 8 rfl rfl)
theorem dJ32_makeLong_2_35 : decode cJ32_makeLong_2 35 = .ok (.lshl, 1) := dk_121 (dk_at dksJ32_makeLong_2_1 11 rfl rfl)
theorem dJ32_makeLong_2_36 : decode cJ32_makeLong_2 36 = .ok (.lor, 1) := dk_129 (dk_at dksJ32_makeLong_2_1 12 rfl rfl)
theorem dJ32_makeLong_2_37 : decode cJ32_makeLong_2 37 = .ok (.iload_n 3, 1) := dk_29 (dk_at dksJ32_makeLong_2_1 13 rfl rfl)
theorem dJ32_makeLong_2_38 : decode cJ32_makeLong_2 38 = .ok (.invokestatic 788, 3) := dk_184 3 20 (dk_at dksJ32_makeLong_2_1 14 rfl rfl)
theorem dJ32_makeLong_2_41 : decode cJ32_makeLong_2 41 = .ok (.bipush 48, 2) := dk_16 48 (dk_at dksJ32_makeLong_2_1 17 rfl rfl)
theorem dJ32_makeLong_2_43 : decode cJ32_makeLong_2 43 = .ok (.bipush 48, 2) := dk_16 48 (dk_at dksJ32_makeLong_2_1 19 rfl rfl)
theorem dJ32_makeLong_2_45 : decode cJ32_makeLong_2 45 = .ok (.invokestatic 784, 3) := dk_184 3 16 (dk_at dksJ32_makeLong_2_1 21 rfl rfl)
theorem dJ32_makeLong_2_48 : decode cJ32_makeLong_2 48 = .ok (.lshl, 1) := dk_121 (dk_at dksJ32_makeLong_2_2 0 rfl rfl)
theorem dJ32_makeLong_2_49 : decode cJ32_makeLong_2 49 = .ok (.lor, 1) := dk_129 (dk_at dksJ32_makeLong_2_2 1 rfl rfl)
theorem dJ32_makeLong_2_50 : decode cJ32_makeLong_2 50 = .ok (.lreturn, 1) := dk_173 (dk_at dksJ32_makeLong_2_2 2 rfl rfl)
abbrev cJ32_toUnsignedLong_2 : ByteArray := prog_135_method_369_code
def yJ32_toUnsignedLong_2 : MethodName := ⟨RJ32, "toUnsignedLong", "(S)J"⟩
def dkwJ32_toUnsignedLong_2_0 : List UInt8 := [26, 133, 20, 3, 42, 127, 173]
abbrev dktJ32_toUnsignedLong_2_0 : List UInt8 := dkwJ32_toUnsignedLong_2_0 ++ []
theorem dksJ32_toUnsignedLong_2_0 : cJ32_toUnsignedLong_2.data.toList.drop 0 = dktJ32_toUnsignedLong_2_0 := by decide +kernel
theorem dJ32_toUnsignedLong_2_0 : decode cJ32_toUnsignedLong_2 0 = .ok (.iload_n 0, 1) := dk_26 (dk_at dksJ32_toUnsignedLong_2_0 0 rfl rfl)
theorem dJ32_toUnsignedLong_2_1 : decode cJ32_toUnsignedLong_2 1 = .ok (.i2l, 1) := dk_133 (dk_at dksJ32_toUnsignedLong_2_0 1 rfl rfl)
theorem dJ32_toUnsignedLong_2_2 : decode cJ32_toUnsignedLong_2 2 = .ok (.ldc2_w 810, 3) := dk_20 3 42 (dk_at dksJ32_toUnsignedLong_2_0 2 rfl rfl)
theorem dJ32_toUnsignedLong_2_5 : decode cJ32_toUnsignedLong_2 5 = .ok (.land, 1) := dk_127 (dk_at dksJ32_toUnsignedLong_2_0 5 rfl rfl)
theorem dJ32_toUnsignedLong_2_6 : decode cJ32_toUnsignedLong_2 6 = .ok (.lreturn, 1) := dk_173 (dk_at dksJ32_toUnsignedLong_2_0 6 rfl rfl)
abbrev cJ32_makeLong_3 : ByteArray := prog_135_method_351_code
def yJ32_makeLong_3 : MethodName := ⟨RJ32, "makeLong", "(BBBBBBBB)J"⟩
def dkwJ32_makeLong_3_4 : List UInt8 := [184, 3, 13, 16, 56, 16, 56, 184, 3, 16, 121, 129, 173]
abbrev dktJ32_makeLong_3_4 : List UInt8 := dkwJ32_makeLong_3_4 ++ []
def dkwJ32_makeLong_3_3 : List UInt8 := [16, 40, 184, 3, 16, 121, 129, 21, 6, 184, 3, 13, 16, 56, 16, 48, 184, 3, 16, 121, 129, 21, 7]
abbrev dktJ32_makeLong_3_3 : List UInt8 := dkwJ32_makeLong_3_3 ++ dktJ32_makeLong_3_4
def dkwJ32_makeLong_3_2 : List UInt8 := [121, 129, 21, 4, 184, 3, 13, 16, 56, 16, 32, 184, 3, 16, 121, 129, 21, 5, 184, 3, 13, 16, 56]
abbrev dktJ32_makeLong_3_2 : List UInt8 := dkwJ32_makeLong_3_2 ++ dktJ32_makeLong_3_3
def dkwJ32_makeLong_3_1 : List UInt8 := [28, 184, 3, 13, 16, 56, 16, 16, 184, 3, 16, 121, 129, 29, 184, 3, 13, 16, 56, 16, 24, 184, 3, 16]
abbrev dktJ32_makeLong_3_1 : List UInt8 := dkwJ32_makeLong_3_1 ++ dktJ32_makeLong_3_2
def dkwJ32_makeLong_3_0 : List UInt8 := [26, 184, 3, 13, 16, 56, 3, 184, 3, 16, 121, 27, 184, 3, 13, 16, 56, 16, 8, 184, 3, 16, 121, 129]
abbrev dktJ32_makeLong_3_0 : List UInt8 := dkwJ32_makeLong_3_0 ++ dktJ32_makeLong_3_1
theorem dksJ32_makeLong_3_0 : cJ32_makeLong_3.data.toList.drop 0 = dktJ32_makeLong_3_0 := by decide +kernel
theorem dksJ32_makeLong_3_1 : cJ32_makeLong_3.data.toList.drop 24 = dktJ32_makeLong_3_1 := dk_seg dksJ32_makeLong_3_0 24 rfl rfl
theorem dksJ32_makeLong_3_2 : cJ32_makeLong_3.data.toList.drop 48 = dktJ32_makeLong_3_2 := dk_seg dksJ32_makeLong_3_1 24 rfl rfl
theorem dksJ32_makeLong_3_3 : cJ32_makeLong_3.data.toList.drop 71 = dktJ32_makeLong_3_3 := dk_seg dksJ32_makeLong_3_2 23 rfl rfl
theorem dksJ32_makeLong_3_4 : cJ32_makeLong_3.data.toList.drop 94 = dktJ32_makeLong_3_4 := dk_seg dksJ32_makeLong_3_3 23 rfl rfl
theorem dJ32_makeLong_3_0 : decode cJ32_makeLong_3 0 = .ok (.iload_n 0, 1) := dk_26 (dk_at dksJ32_makeLong_3_0 0 rfl rfl)
theorem dJ32_makeLong_3_1 : decode cJ32_makeLong_3 1 = .ok (.invokestatic 781, 3) := dk_184 3 13 (dk_at dksJ32_makeLong_3_0 1 rfl rfl)
theorem dJ32_makeLong_3_4 : decode cJ32_makeLong_3 4 = .ok (.bipush 56, 2) := dk_16 56 (dk_at dksJ32_makeLong_3_0 4 rfl rfl)
theorem dJ32_makeLong_3_6 : decode cJ32_makeLong_3 6 = .ok (.iconst 0, 1) := dk_3 (dk_at dksJ32_makeLong_3_0 6 rfl rfl)
theorem dJ32_makeLong_3_7 : decode cJ32_makeLong_3 7 = .ok (.invokestatic 784, 3) := dk_184 3 16 (dk_at dksJ32_makeLong_3_0 7 rfl rfl)
theorem dJ32_makeLong_3_10 : decode cJ32_makeLong_3 10 = .ok (.lshl, 1) := dk_121 (dk_at dksJ32_makeLong_3_0 10 rfl rfl)
theorem dJ32_makeLong_3_11 : decode cJ32_makeLong_3 11 = .ok (.iload_n 1, 1) := dk_27 (dk_at dksJ32_makeLong_3_0 11 rfl rfl)
theorem dJ32_makeLong_3_12 : decode cJ32_makeLong_3 12 = .ok (.invokestatic 781, 3) := dk_184 3 13 (dk_at dksJ32_makeLong_3_0 12 rfl rfl)
theorem dJ32_makeLong_3_15 : decode cJ32_makeLong_3 15 = .ok (.bipush 56, 2) := dk_16 56 (dk_at dksJ32_makeLong_3_0 15 rfl rfl)
theorem dJ32_makeLong_3_17 : decode cJ32_makeLong_3 17 = .ok (.bipush 8, 2) := dk_16 8 (dk_at dksJ32_makeLong_3_0 17 rfl rfl)
theorem dJ32_makeLong_3_19 : decode cJ32_makeLong_3 19 = .ok (.invokestatic 784, 3) := dk_184 3 16 (dk_at dksJ32_makeLong_3_0 19 rfl rfl)
theorem dJ32_makeLong_3_22 : decode cJ32_makeLong_3 22 = .ok (.lshl, 1) := dk_121 (dk_at dksJ32_makeLong_3_0 22 rfl rfl)
theorem dJ32_makeLong_3_23 : decode cJ32_makeLong_3 23 = .ok (.lor, 1) := dk_129 (dk_at dksJ32_makeLong_3_0 23 rfl rfl)
theorem dJ32_makeLong_3_24 : decode cJ32_makeLong_3 24 = .ok (.iload_n 2, 1) := dk_28 (dk_at dksJ32_makeLong_3_1 0 rfl rfl)
theorem dJ32_makeLong_3_25 : decode cJ32_makeLong_3 25 = .ok (.invokestatic 781, 3) := dk_184 3 13 (dk_at dksJ32_makeLong_3_1 1 rfl rfl)
theorem dJ32_makeLong_3_28 : decode cJ32_makeLong_3 28 = .ok (.bipush 56, 2) := dk_16 56 (dk_at dksJ32_makeLong_3_1 4 rfl rfl)
theorem dJ32_makeLong_3_30 : decode cJ32_makeLong_3 30 = .ok (.bipush 16, 2) := dk_16 16 (dk_at dksJ32_makeLong_3_1 6 rfl rfl)
theorem dJ32_makeLong_3_32 : decode cJ32_makeLong_3 32 = .ok (.invokestatic 784, 3) := dk_184 3 16 (dk_at dksJ32_makeLong_3_1 8 rfl rfl)
theorem dJ32_makeLong_3_35 : decode cJ32_makeLong_3 35 = .ok (.lshl, 1) := dk_121 (dk_at dksJ32_makeLong_3_1 11 rfl rfl)
theorem dJ32_makeLong_3_36 : decode cJ32_makeLong_3 36 = .ok (.lor, 1) := dk_129 (dk_at dksJ32_makeLong_3_1 12 rfl rfl)
theorem dJ32_makeLong_3_37 : decode cJ32_makeLong_3 37 = .ok (.iload_n 3, 1) := dk_29 (dk_at dksJ32_makeLong_3_1 13 rfl rfl)
theorem dJ32_makeLong_3_38 : decode cJ32_makeLong_3 38 = .ok (.invokestatic 781, 3) := dk_184 3 13 (dk_at dksJ32_makeLong_3_1 14 rfl rfl)
theorem dJ32_makeLong_3_41 : decode cJ32_makeLong_3 41 = .ok (.bipush 56, 2) := dk_16 56 (dk_at dksJ32_makeLong_3_1 17 rfl rfl)
theorem dJ32_makeLong_3_43 : decode cJ32_makeLong_3 43 = .ok (.bipush 24, 2) := dk_16 24 (dk_at dksJ32_makeLong_3_1 19 rfl rfl)
theorem dJ32_makeLong_3_45 : decode cJ32_makeLong_3 45 = .ok (.invokestatic 784, 3) := dk_184 3 16 (dk_at dksJ32_makeLong_3_1 21 rfl rfl)
theorem dJ32_makeLong_3_48 : decode cJ32_makeLong_3 48 = .ok (.lshl, 1) := dk_121 (dk_at dksJ32_makeLong_3_2 0 rfl rfl)
theorem dJ32_makeLong_3_49 : decode cJ32_makeLong_3 49 = .ok (.lor, 1) := dk_129 (dk_at dksJ32_makeLong_3_2 1 rfl rfl)
theorem dJ32_makeLong_3_50 : decode cJ32_makeLong_3 50 = .ok (.iload 4, 2) := dk_21 4 (dk_at dksJ32_makeLong_3_2 2 rfl rfl)
theorem dJ32_makeLong_3_52 : decode cJ32_makeLong_3 52 = .ok (.invokestatic 781, 3) := dk_184 3 13 (dk_at dksJ32_makeLong_3_2 4 rfl rfl)
theorem dJ32_makeLong_3_55 : decode cJ32_makeLong_3 55 = .ok (.bipush 56, 2) := dk_16 56 (dk_at dksJ32_makeLong_3_2 7 rfl rfl)
theorem dJ32_makeLong_3_57 : decode cJ32_makeLong_3 57 = .ok (.bipush 32, 2) := dk_16 32 (dk_at dksJ32_makeLong_3_2 9 rfl rfl)
theorem dJ32_makeLong_3_59 : decode cJ32_makeLong_3 59 = .ok (.invokestatic 784, 3) := dk_184 3 16 (dk_at dksJ32_makeLong_3_2 11 rfl rfl)
theorem dJ32_makeLong_3_62 : decode cJ32_makeLong_3 62 = .ok (.lshl, 1) := dk_121 (dk_at dksJ32_makeLong_3_2 14 rfl rfl)
theorem dJ32_makeLong_3_63 : decode cJ32_makeLong_3 63 = .ok (.lor, 1) := dk_129 (dk_at dksJ32_makeLong_3_2 15 rfl rfl)
theorem dJ32_makeLong_3_64 : decode cJ32_makeLong_3 64 = .ok (.iload 5, 2) := dk_21 5 (dk_at dksJ32_makeLong_3_2 16 rfl rfl)
theorem dJ32_makeLong_3_66 : decode cJ32_makeLong_3 66 = .ok (.invokestatic 781, 3) := dk_184 3 13 (dk_at dksJ32_makeLong_3_2 18 rfl rfl)
theorem dJ32_makeLong_3_69 : decode cJ32_makeLong_3 69 = .ok (.bipush 56, 2) := dk_16 56 (dk_at dksJ32_makeLong_3_2 21 rfl rfl)
theorem dJ32_makeLong_3_71 : decode cJ32_makeLong_3 71 = .ok (.bipush 40, 2) := dk_16 40 (dk_at dksJ32_makeLong_3_3 0 rfl rfl)
theorem dJ32_makeLong_3_73 : decode cJ32_makeLong_3 73 = .ok (.invokestatic 784, 3) := dk_184 3 16 (dk_at dksJ32_makeLong_3_3 2 rfl rfl)
theorem dJ32_makeLong_3_76 : decode cJ32_makeLong_3 76 = .ok (.lshl, 1) := dk_121 (dk_at dksJ32_makeLong_3_3 5 rfl rfl)
theorem dJ32_makeLong_3_77 : decode cJ32_makeLong_3 77 = .ok (.lor, 1) := dk_129 (dk_at dksJ32_makeLong_3_3 6 rfl rfl)
theorem dJ32_makeLong_3_78 : decode cJ32_makeLong_3 78 = .ok (.iload 6, 2) := dk_21 6 (dk_at dksJ32_makeLong_3_3 7 rfl rfl)
theorem dJ32_makeLong_3_80 : decode cJ32_makeLong_3 80 = .ok (.invokestatic 781, 3) := dk_184 3 13 (dk_at dksJ32_makeLong_3_3 9 rfl rfl)
theorem dJ32_makeLong_3_83 : decode cJ32_makeLong_3 83 = .ok (.bipush 56, 2) := dk_16 56 (dk_at dksJ32_makeLong_3_3 12 rfl rfl)
theorem dJ32_makeLong_3_85 : decode cJ32_makeLong_3 85 = .ok (.bipush 48, 2) := dk_16 48 (dk_at dksJ32_makeLong_3_3 14 rfl rfl)
theorem dJ32_makeLong_3_87 : decode cJ32_makeLong_3 87 = .ok (.invokestatic 784, 3) := dk_184 3 16 (dk_at dksJ32_makeLong_3_3 16 rfl rfl)
theorem dJ32_makeLong_3_90 : decode cJ32_makeLong_3 90 = .ok (.lshl, 1) := dk_121 (dk_at dksJ32_makeLong_3_3 19 rfl rfl)
theorem dJ32_makeLong_3_91 : decode cJ32_makeLong_3 91 = .ok (.lor, 1) := dk_129 (dk_at dksJ32_makeLong_3_3 20 rfl rfl)
theorem dJ32_makeLong_3_92 : decode cJ32_makeLong_3 92 = .ok (.iload 7, 2) := dk_21 7 (dk_at dksJ32_makeLong_3_3 21 rfl rfl)
theorem dJ32_makeLong_3_94 : decode cJ32_makeLong_3 94 = .ok (.invokestatic 781, 3) := dk_184 3 13 (dk_at dksJ32_makeLong_3_4 0 rfl rfl)
theorem dJ32_makeLong_3_97 : decode cJ32_makeLong_3 97 = .ok (.bipush 56, 2) := dk_16 56 (dk_at dksJ32_makeLong_3_4 3 rfl rfl)
theorem dJ32_makeLong_3_99 : decode cJ32_makeLong_3 99 = .ok (.bipush 56, 2) := dk_16 56 (dk_at dksJ32_makeLong_3_4 5 rfl rfl)
theorem dJ32_makeLong_3_101 : decode cJ32_makeLong_3 101 = .ok (.invokestatic 784, 3) := dk_184 3 16 (dk_at dksJ32_makeLong_3_4 7 rfl rfl)
theorem dJ32_makeLong_3_104 : decode cJ32_makeLong_3 104 = .ok (.lshl, 1) := dk_121 (dk_at dksJ32_makeLong_3_4 10 rfl rfl)
theorem dJ32_makeLong_3_105 : decode cJ32_makeLong_3 105 = .ok (.lor, 1) := dk_129 (dk_at dksJ32_makeLong_3_4 11 rfl rfl)
theorem dJ32_makeLong_3_106 : decode cJ32_makeLong_3 106 = .ok (.lreturn, 1) := dk_173 (dk_at dksJ32_makeLong_3_4 12 rfl rfl)
abbrev cJ32_toUnsignedLong_3 : ByteArray := prog_135_method_368_code
def yJ32_toUnsignedLong_3 : MethodName := ⟨RJ32, "toUnsignedLong", "(B)J"⟩
def dkwJ32_toUnsignedLong_3_0 : List UInt8 := [26, 133, 20, 3, 40, 127, 173]
abbrev dktJ32_toUnsignedLong_3_0 : List UInt8 := dkwJ32_toUnsignedLong_3_0 ++ []
theorem dksJ32_toUnsignedLong_3_0 : cJ32_toUnsignedLong_3.data.toList.drop 0 = dktJ32_toUnsignedLong_3_0 := by decide +kernel
theorem dJ32_toUnsignedLong_3_0 : decode cJ32_toUnsignedLong_3 0 = .ok (.iload_n 0, 1) := dk_26 (dk_at dksJ32_toUnsignedLong_3_0 0 rfl rfl)
theorem dJ32_toUnsignedLong_3_1 : decode cJ32_toUnsignedLong_3 1 = .ok (.i2l, 1) := dk_133 (dk_at dksJ32_toUnsignedLong_3_0 1 rfl rfl)
theorem dJ32_toUnsignedLong_3_2 : decode cJ32_toUnsignedLong_3 2 = .ok (.ldc2_w 808, 3) := dk_20 3 40 (dk_at dksJ32_toUnsignedLong_3_0 2 rfl rfl)
theorem dJ32_toUnsignedLong_3_5 : decode cJ32_toUnsignedLong_3 5 = .ok (.land, 1) := dk_127 (dk_at dksJ32_toUnsignedLong_3_0 5 rfl rfl)
theorem dJ32_toUnsignedLong_3_6 : decode cJ32_toUnsignedLong_3 6 = .ok (.lreturn, 1) := dk_173 (dk_at dksJ32_toUnsignedLong_3_0 6 rfl rfl)
abbrev cJ32_getIntUnaligned : ByteArray := prog_135_method_336_code
def yJ32_getIntUnaligned : MethodName := ⟨RJ32, "getIntUnaligned", "(Ljava/lang/Object;J)I"⟩
def dkwJ32_getIntUnaligned_3 : List UInt8 := [43, 32, 20, 1, 93, 97, 182, 0, 39, 184, 2, 211, 172]
abbrev dktJ32_getIntUnaligned_3 : List UInt8 := dkwJ32_getIntUnaligned_3 ++ []
def dkwJ32_getIntUnaligned_2 : List UInt8 := [43, 32, 182, 0, 39, 42, 43, 32, 10, 97, 182, 0, 39, 42, 43, 32, 20, 0, 203, 97, 182, 0, 39, 42]
abbrev dktJ32_getIntUnaligned_2 : List UInt8 := dkwJ32_getIntUnaligned_2 ++ dktJ32_getIntUnaligned_3
def dkwJ32_getIntUnaligned_1 : List UInt8 := [154, 0, 23, 42, 43, 32, 182, 0, 47, 42, 43, 32, 20, 0, 203, 97, 182, 0, 47, 184, 2, 207, 172, 42]
abbrev dktJ32_getIntUnaligned_1 : List UInt8 := dkwJ32_getIntUnaligned_1 ++ dktJ32_getIntUnaligned_2
def dkwJ32_getIntUnaligned_0 : List UInt8 := [32, 20, 1, 93, 127, 9, 148, 154, 0, 10, 42, 43, 32, 182, 0, 17, 172, 32, 10, 127, 9, 148]
abbrev dktJ32_getIntUnaligned_0 : List UInt8 := dkwJ32_getIntUnaligned_0 ++ dktJ32_getIntUnaligned_1
theorem dksJ32_getIntUnaligned_0 : cJ32_getIntUnaligned.data.toList.drop 0 = dktJ32_getIntUnaligned_0 := by decide +kernel
theorem dksJ32_getIntUnaligned_1 : cJ32_getIntUnaligned.data.toList.drop 22 = dktJ32_getIntUnaligned_1 := dk_seg dksJ32_getIntUnaligned_0 22 rfl rfl
theorem dksJ32_getIntUnaligned_2 : cJ32_getIntUnaligned.data.toList.drop 46 = dktJ32_getIntUnaligned_2 := dk_seg dksJ32_getIntUnaligned_1 24 rfl rfl
theorem dksJ32_getIntUnaligned_3 : cJ32_getIntUnaligned.data.toList.drop 70 = dktJ32_getIntUnaligned_3 := dk_seg dksJ32_getIntUnaligned_2 24 rfl rfl
theorem dJ32_getIntUnaligned_0 : decode cJ32_getIntUnaligned 0 = .ok (.lload_n 2, 1) := dk_32 (dk_at dksJ32_getIntUnaligned_0 0 rfl rfl)
theorem dJ32_getIntUnaligned_1 : decode cJ32_getIntUnaligned 1 = .ok (.ldc2_w 349, 3) := dk_20 1 93 (dk_at dksJ32_getIntUnaligned_0 1 rfl rfl)
theorem dJ32_getIntUnaligned_4 : decode cJ32_getIntUnaligned 4 = .ok (.land, 1) := dk_127 (dk_at dksJ32_getIntUnaligned_0 4 rfl rfl)
theorem dJ32_getIntUnaligned_5 : decode cJ32_getIntUnaligned 5 = .ok (.lconst 0, 1) := dk_9 (dk_at dksJ32_getIntUnaligned_0 5 rfl rfl)
theorem dJ32_getIntUnaligned_6 : decode cJ32_getIntUnaligned 6 = .ok (.lcmp, 1) := dk_148 (dk_at dksJ32_getIntUnaligned_0 6 rfl rfl)
theorem dJ32_getIntUnaligned_7 : decode cJ32_getIntUnaligned 7 = .ok (.ifCond .ne 10, 3) := dk_154 0 10 (dk_at dksJ32_getIntUnaligned_0 7 rfl rfl)
theorem dJ32_getIntUnaligned_10 : decode cJ32_getIntUnaligned 10 = .ok (.aload_n 0, 1) := dk_42 (dk_at dksJ32_getIntUnaligned_0 10 rfl rfl)
theorem dJ32_getIntUnaligned_11 : decode cJ32_getIntUnaligned 11 = .ok (.aload_n 1, 1) := dk_43 (dk_at dksJ32_getIntUnaligned_0 11 rfl rfl)
theorem dJ32_getIntUnaligned_12 : decode cJ32_getIntUnaligned 12 = .ok (.lload_n 2, 1) := dk_32 (dk_at dksJ32_getIntUnaligned_0 12 rfl rfl)
theorem dJ32_getIntUnaligned_13 : decode cJ32_getIntUnaligned 13 = .ok (.invokevirtual 17, 3) := dk_182 0 17 (dk_at dksJ32_getIntUnaligned_0 13 rfl rfl)
theorem dJ32_getIntUnaligned_16 : decode cJ32_getIntUnaligned 16 = .ok (.ireturn, 1) := dk_172 (dk_at dksJ32_getIntUnaligned_0 16 rfl rfl)
theorem dJ32_getIntUnaligned_17 : decode cJ32_getIntUnaligned 17 = .ok (.lload_n 2, 1) := dk_32 (dk_at dksJ32_getIntUnaligned_0 17 rfl rfl)
theorem dJ32_getIntUnaligned_18 : decode cJ32_getIntUnaligned 18 = .ok (.lconst 1, 1) := dk_10 (dk_at dksJ32_getIntUnaligned_0 18 rfl rfl)
theorem dJ32_getIntUnaligned_19 : decode cJ32_getIntUnaligned 19 = .ok (.land, 1) := dk_127 (dk_at dksJ32_getIntUnaligned_0 19 rfl rfl)
theorem dJ32_getIntUnaligned_20 : decode cJ32_getIntUnaligned 20 = .ok (.lconst 0, 1) := dk_9 (dk_at dksJ32_getIntUnaligned_0 20 rfl rfl)
theorem dJ32_getIntUnaligned_21 : decode cJ32_getIntUnaligned 21 = .ok (.lcmp, 1) := dk_148 (dk_at dksJ32_getIntUnaligned_0 21 rfl rfl)
theorem dJ32_getIntUnaligned_22 : decode cJ32_getIntUnaligned 22 = .ok (.ifCond .ne 23, 3) := dk_154 0 23 (dk_at dksJ32_getIntUnaligned_1 0 rfl rfl)
theorem dJ32_getIntUnaligned_25 : decode cJ32_getIntUnaligned 25 = .ok (.aload_n 0, 1) := dk_42 (dk_at dksJ32_getIntUnaligned_1 3 rfl rfl)
theorem dJ32_getIntUnaligned_26 : decode cJ32_getIntUnaligned 26 = .ok (.aload_n 1, 1) := dk_43 (dk_at dksJ32_getIntUnaligned_1 4 rfl rfl)
theorem dJ32_getIntUnaligned_27 : decode cJ32_getIntUnaligned 27 = .ok (.lload_n 2, 1) := dk_32 (dk_at dksJ32_getIntUnaligned_1 5 rfl rfl)
theorem dJ32_getIntUnaligned_28 : decode cJ32_getIntUnaligned 28 = .ok (.invokevirtual 47, 3) := dk_182 0 47 (dk_at dksJ32_getIntUnaligned_1 6 rfl rfl)
theorem dJ32_getIntUnaligned_31 : decode cJ32_getIntUnaligned 31 = .ok (.aload_n 0, 1) := dk_42 (dk_at dksJ32_getIntUnaligned_1 9 rfl rfl)
theorem dJ32_getIntUnaligned_32 : decode cJ32_getIntUnaligned 32 = .ok (.aload_n 1, 1) := dk_43 (dk_at dksJ32_getIntUnaligned_1 10 rfl rfl)
theorem dJ32_getIntUnaligned_33 : decode cJ32_getIntUnaligned 33 = .ok (.lload_n 2, 1) := dk_32 (dk_at dksJ32_getIntUnaligned_1 11 rfl rfl)
theorem dJ32_getIntUnaligned_34 : decode cJ32_getIntUnaligned 34 = .ok (.ldc2_w 203, 3) := dk_20 0 203 (dk_at dksJ32_getIntUnaligned_1 12 rfl rfl)
theorem dJ32_getIntUnaligned_37 : decode cJ32_getIntUnaligned 37 = .ok (.ladd, 1) := dk_97 (dk_at dksJ32_getIntUnaligned_1 15 rfl rfl)
theorem dJ32_getIntUnaligned_38 : decode cJ32_getIntUnaligned 38 = .ok (.invokevirtual 47, 3) := dk_182 0 47 (dk_at dksJ32_getIntUnaligned_1 16 rfl rfl)
theorem dJ32_getIntUnaligned_41 : decode cJ32_getIntUnaligned 41 = .ok (.invokestatic 719, 3) := dk_184 2 207 (dk_at dksJ32_getIntUnaligned_1 19 rfl rfl)
theorem dJ32_getIntUnaligned_44 : decode cJ32_getIntUnaligned 44 = .ok (.ireturn, 1) := dk_172 (dk_at dksJ32_getIntUnaligned_1 22 rfl rfl)
theorem dJ32_getIntUnaligned_45 : decode cJ32_getIntUnaligned 45 = .ok (.aload_n 0, 1) := dk_42 (dk_at dksJ32_getIntUnaligned_1 23 rfl rfl)
theorem dJ32_getIntUnaligned_46 : decode cJ32_getIntUnaligned 46 = .ok (.aload_n 1, 1) := dk_43 (dk_at dksJ32_getIntUnaligned_2 0 rfl rfl)
theorem dJ32_getIntUnaligned_47 : decode cJ32_getIntUnaligned 47 = .ok (.lload_n 2, 1) := dk_32 (dk_at dksJ32_getIntUnaligned_2 1 rfl rfl)
theorem dJ32_getIntUnaligned_48 : decode cJ32_getIntUnaligned 48 = .ok (.invokevirtual 39, 3) := dk_182 0 39 (dk_at dksJ32_getIntUnaligned_2 2 rfl rfl)
theorem dJ32_getIntUnaligned_51 : decode cJ32_getIntUnaligned 51 = .ok (.aload_n 0, 1) := dk_42 (dk_at dksJ32_getIntUnaligned_2 5 rfl rfl)
theorem dJ32_getIntUnaligned_52 : decode cJ32_getIntUnaligned 52 = .ok (.aload_n 1, 1) := dk_43 (dk_at dksJ32_getIntUnaligned_2 6 rfl rfl)
theorem dJ32_getIntUnaligned_53 : decode cJ32_getIntUnaligned 53 = .ok (.lload_n 2, 1) := dk_32 (dk_at dksJ32_getIntUnaligned_2 7 rfl rfl)
theorem dJ32_getIntUnaligned_54 : decode cJ32_getIntUnaligned 54 = .ok (.lconst 1, 1) := dk_10 (dk_at dksJ32_getIntUnaligned_2 8 rfl rfl)
theorem dJ32_getIntUnaligned_55 : decode cJ32_getIntUnaligned 55 = .ok (.ladd, 1) := dk_97 (dk_at dksJ32_getIntUnaligned_2 9 rfl rfl)
theorem dJ32_getIntUnaligned_56 : decode cJ32_getIntUnaligned 56 = .ok (.invokevirtual 39, 3) := dk_182 0 39 (dk_at dksJ32_getIntUnaligned_2 10 rfl rfl)
theorem dJ32_getIntUnaligned_59 : decode cJ32_getIntUnaligned 59 = .ok (.aload_n 0, 1) := dk_42 (dk_at dksJ32_getIntUnaligned_2 13 rfl rfl)
theorem dJ32_getIntUnaligned_60 : decode cJ32_getIntUnaligned 60 = .ok (.aload_n 1, 1) := dk_43 (dk_at dksJ32_getIntUnaligned_2 14 rfl rfl)
theorem dJ32_getIntUnaligned_61 : decode cJ32_getIntUnaligned 61 = .ok (.lload_n 2, 1) := dk_32 (dk_at dksJ32_getIntUnaligned_2 15 rfl rfl)
theorem dJ32_getIntUnaligned_62 : decode cJ32_getIntUnaligned 62 = .ok (.ldc2_w 203, 3) := dk_20 0 203 (dk_at dksJ32_getIntUnaligned_2 16 rfl rfl)
theorem dJ32_getIntUnaligned_65 : decode cJ32_getIntUnaligned 65 = .ok (.ladd, 1) := dk_97 (dk_at dksJ32_getIntUnaligned_2 19 rfl rfl)
theorem dJ32_getIntUnaligned_66 : decode cJ32_getIntUnaligned 66 = .ok (.invokevirtual 39, 3) := dk_182 0 39 (dk_at dksJ32_getIntUnaligned_2 20 rfl rfl)
theorem dJ32_getIntUnaligned_69 : decode cJ32_getIntUnaligned 69 = .ok (.aload_n 0, 1) := dk_42 (dk_at dksJ32_getIntUnaligned_2 23 rfl rfl)
theorem dJ32_getIntUnaligned_70 : decode cJ32_getIntUnaligned 70 = .ok (.aload_n 1, 1) := dk_43 (dk_at dksJ32_getIntUnaligned_3 0 rfl rfl)
theorem dJ32_getIntUnaligned_71 : decode cJ32_getIntUnaligned 71 = .ok (.lload_n 2, 1) := dk_32 (dk_at dksJ32_getIntUnaligned_3 1 rfl rfl)
theorem dJ32_getIntUnaligned_72 : decode cJ32_getIntUnaligned 72 = .ok (.ldc2_w 349, 3) := dk_20 1 93 (dk_at dksJ32_getIntUnaligned_3 2 rfl rfl)
theorem dJ32_getIntUnaligned_75 : decode cJ32_getIntUnaligned 75 = .ok (.ladd, 1) := dk_97 (dk_at dksJ32_getIntUnaligned_3 5 rfl rfl)
theorem dJ32_getIntUnaligned_76 : decode cJ32_getIntUnaligned 76 = .ok (.invokevirtual 39, 3) := dk_182 0 39 (dk_at dksJ32_getIntUnaligned_3 6 rfl rfl)
theorem dJ32_getIntUnaligned_79 : decode cJ32_getIntUnaligned 79 = .ok (.invokestatic 723, 3) := dk_184 2 211 (dk_at dksJ32_getIntUnaligned_3 9 rfl rfl)
theorem dJ32_getIntUnaligned_82 : decode cJ32_getIntUnaligned 82 = .ok (.ireturn, 1) := dk_172 (dk_at dksJ32_getIntUnaligned_3 12 rfl rfl)
abbrev cJ32_makeInt : ByteArray := prog_135_method_354_code
def yJ32_makeInt : MethodName := ⟨RJ32, "makeInt", "(SS)I"⟩
def dkwJ32_makeInt_1 : List UInt8 := [172]
abbrev dktJ32_makeInt_1 : List UInt8 := dkwJ32_makeInt_1 ++ []
def dkwJ32_makeInt_0 : List UInt8 := [26, 184, 3, 24, 16, 16, 3, 184, 3, 16, 120, 27, 184, 3, 24, 16, 16, 16, 16, 184, 3, 16, 120, 128]
abbrev dktJ32_makeInt_0 : List UInt8 := dkwJ32_makeInt_0 ++ dktJ32_makeInt_1
theorem dksJ32_makeInt_0 : cJ32_makeInt.data.toList.drop 0 = dktJ32_makeInt_0 := by decide +kernel
theorem dksJ32_makeInt_1 : cJ32_makeInt.data.toList.drop 24 = dktJ32_makeInt_1 := dk_seg dksJ32_makeInt_0 24 rfl rfl
theorem dJ32_makeInt_0 : decode cJ32_makeInt 0 = .ok (.iload_n 0, 1) := dk_26 (dk_at dksJ32_makeInt_0 0 rfl rfl)
theorem dJ32_makeInt_1 : decode cJ32_makeInt 1 = .ok (.invokestatic 792, 3) := dk_184 3 24 (dk_at dksJ32_makeInt_0 1 rfl rfl)
theorem dJ32_makeInt_4 : decode cJ32_makeInt 4 = .ok (.bipush 16, 2) := dk_16 16 (dk_at dksJ32_makeInt_0 4 rfl rfl)
theorem dJ32_makeInt_6 : decode cJ32_makeInt 6 = .ok (.iconst 0, 1) := dk_3 (dk_at dksJ32_makeInt_0 6 rfl rfl)
theorem dJ32_makeInt_7 : decode cJ32_makeInt 7 = .ok (.invokestatic 784, 3) := dk_184 3 16 (dk_at dksJ32_makeInt_0 7 rfl rfl)
theorem dJ32_makeInt_10 : decode cJ32_makeInt 10 = .ok (.ishl, 1) := dk_120 (dk_at dksJ32_makeInt_0 10 rfl rfl)
theorem dJ32_makeInt_11 : decode cJ32_makeInt 11 = .ok (.iload_n 1, 1) := dk_27 (dk_at dksJ32_makeInt_0 11 rfl rfl)
theorem dJ32_makeInt_12 : decode cJ32_makeInt 12 = .ok (.invokestatic 792, 3) := dk_184 3 24 (dk_at dksJ32_makeInt_0 12 rfl rfl)
theorem dJ32_makeInt_15 : decode cJ32_makeInt 15 = .ok (.bipush 16, 2) := dk_16 16 (dk_at dksJ32_makeInt_0 15 rfl rfl)
theorem dJ32_makeInt_17 : decode cJ32_makeInt 17 = .ok (.bipush 16, 2) := dk_16 16 (dk_at dksJ32_makeInt_0 17 rfl rfl)
theorem dJ32_makeInt_19 : decode cJ32_makeInt 19 = .ok (.invokestatic 784, 3) := dk_184 3 16 (dk_at dksJ32_makeInt_0 19 rfl rfl)
theorem dJ32_makeInt_22 : decode cJ32_makeInt 22 = .ok (.ishl, 1) := dk_120 (dk_at dksJ32_makeInt_0 22 rfl rfl)
theorem dJ32_makeInt_23 : decode cJ32_makeInt 23 = .ok (.ior, 1) := dk_128 (dk_at dksJ32_makeInt_0 23 rfl rfl)
theorem dJ32_makeInt_24 : decode cJ32_makeInt 24 = .ok (.ireturn, 1) := dk_172 (dk_at dksJ32_makeInt_1 0 rfl rfl)
abbrev cJ32_toUnsignedInt : ByteArray := prog_135_method_367_code
def yJ32_toUnsignedInt : MethodName := ⟨RJ32, "toUnsignedInt", "(S)I"⟩
def dkwJ32_toUnsignedInt_0 : List UInt8 := [26, 19, 1, 118, 126, 172]
abbrev dktJ32_toUnsignedInt_0 : List UInt8 := dkwJ32_toUnsignedInt_0 ++ []
theorem dksJ32_toUnsignedInt_0 : cJ32_toUnsignedInt.data.toList.drop 0 = dktJ32_toUnsignedInt_0 := by decide +kernel
theorem dJ32_toUnsignedInt_0 : decode cJ32_toUnsignedInt 0 = .ok (.iload_n 0, 1) := dk_26 (dk_at dksJ32_toUnsignedInt_0 0 rfl rfl)
theorem dJ32_toUnsignedInt_1 : decode cJ32_toUnsignedInt 1 = .ok (.ldc_w 374, 3) := dk_19 1 118 (dk_at dksJ32_toUnsignedInt_0 1 rfl rfl)
theorem dJ32_toUnsignedInt_4 : decode cJ32_toUnsignedInt 4 = .ok (.iand, 1) := dk_126 (dk_at dksJ32_toUnsignedInt_0 4 rfl rfl)
theorem dJ32_toUnsignedInt_5 : decode cJ32_toUnsignedInt 5 = .ok (.ireturn, 1) := dk_172 (dk_at dksJ32_toUnsignedInt_0 5 rfl rfl)
abbrev cJ32_makeInt_2 : ByteArray := prog_135_method_355_code
def yJ32_makeInt_2 : MethodName := ⟨RJ32, "makeInt", "(BBBB)I"⟩
def dkwJ32_makeInt_2_2 : List UInt8 := [120, 128, 172]
abbrev dktJ32_makeInt_2_2 : List UInt8 := dkwJ32_makeInt_2_2 ++ []
def dkwJ32_makeInt_2_1 : List UInt8 := [28, 184, 3, 28, 16, 24, 16, 16, 184, 3, 16, 120, 128, 29, 184, 3, 28, 16, 24, 16, 24, 184, 3, 16]
abbrev dktJ32_makeInt_2_1 : List UInt8 := dkwJ32_makeInt_2_1 ++ dktJ32_makeInt_2_2
def dkwJ32_makeInt_2_0 : List UInt8 := [26, 184, 3, 28, 16, 24, 3, 184, 3, 16, 120, 27, 184, 3, 28, 16, 24, 16, 8, 184, 3, 16, 120, 128]
abbrev dktJ32_makeInt_2_0 : List UInt8 := dkwJ32_makeInt_2_0 ++ dktJ32_makeInt_2_1
theorem dksJ32_makeInt_2_0 : cJ32_makeInt_2.data.toList.drop 0 = dktJ32_makeInt_2_0 := by decide +kernel
theorem dksJ32_makeInt_2_1 : cJ32_makeInt_2.data.toList.drop 24 = dktJ32_makeInt_2_1 := dk_seg dksJ32_makeInt_2_0 24 rfl rfl
theorem dksJ32_makeInt_2_2 : cJ32_makeInt_2.data.toList.drop 48 = dktJ32_makeInt_2_2 := dk_seg dksJ32_makeInt_2_1 24 rfl rfl
theorem dJ32_makeInt_2_0 : decode cJ32_makeInt_2 0 = .ok (.iload_n 0, 1) := dk_26 (dk_at dksJ32_makeInt_2_0 0 rfl rfl)
theorem dJ32_makeInt_2_1 : decode cJ32_makeInt_2 1 = .ok (.invokestatic 796, 3) := dk_184 3 28 (dk_at dksJ32_makeInt_2_0 1 rfl rfl)
theorem dJ32_makeInt_2_4 : decode cJ32_makeInt_2 4 = .ok (.bipush 24, 2) := dk_16 24 (dk_at dksJ32_makeInt_2_0 4 rfl rfl)
theorem dJ32_makeInt_2_6 : decode cJ32_makeInt_2 6 = .ok (.iconst 0, 1) := dk_3 (dk_at dksJ32_makeInt_2_0 6 rfl rfl)
theorem dJ32_makeInt_2_7 : decode cJ32_makeInt_2 7 = .ok (.invokestatic 784, 3) := dk_184 3 16 (dk_at dksJ32_makeInt_2_0 7 rfl rfl)
theorem dJ32_makeInt_2_10 : decode cJ32_makeInt_2 10 = .ok (.ishl, 1) := dk_120 (dk_at dksJ32_makeInt_2_0 10 rfl rfl)
theorem dJ32_makeInt_2_11 : decode cJ32_makeInt_2 11 = .ok (.iload_n 1, 1) := dk_27 (dk_at dksJ32_makeInt_2_0 11 rfl rfl)
theorem dJ32_makeInt_2_12 : decode cJ32_makeInt_2 12 = .ok (.invokestatic 796, 3) := dk_184 3 28 (dk_at dksJ32_makeInt_2_0 12 rfl rfl)
theorem dJ32_makeInt_2_15 : decode cJ32_makeInt_2 15 = .ok (.bipush 24, 2) := dk_16 24 (dk_at dksJ32_makeInt_2_0 15 rfl rfl)
theorem dJ32_makeInt_2_17 : decode cJ32_makeInt_2 17 = .ok (.bipush 8, 2) := dk_16 8 (dk_at dksJ32_makeInt_2_0 17 rfl rfl)
theorem dJ32_makeInt_2_19 : decode cJ32_makeInt_2 19 = .ok (.invokestatic 784, 3) := dk_184 3 16 (dk_at dksJ32_makeInt_2_0 19 rfl rfl)
theorem dJ32_makeInt_2_22 : decode cJ32_makeInt_2 22 = .ok (.ishl, 1) := dk_120 (dk_at dksJ32_makeInt_2_0 22 rfl rfl)
theorem dJ32_makeInt_2_23 : decode cJ32_makeInt_2 23 = .ok (.ior, 1) := dk_128 (dk_at dksJ32_makeInt_2_0 23 rfl rfl)
theorem dJ32_makeInt_2_24 : decode cJ32_makeInt_2 24 = .ok (.iload_n 2, 1) := dk_28 (dk_at dksJ32_makeInt_2_1 0 rfl rfl)
theorem dJ32_makeInt_2_25 : decode cJ32_makeInt_2 25 = .ok (.invokestatic 796, 3) := dk_184 3 28 (dk_at dksJ32_makeInt_2_1 1 rfl rfl)
theorem dJ32_makeInt_2_28 : decode cJ32_makeInt_2 28 = .ok (.bipush 24, 2) := dk_16 24 (dk_at dksJ32_makeInt_2_1 4 rfl rfl)
theorem dJ32_makeInt_2_30 : decode cJ32_makeInt_2 30 = .ok (.bipush 16, 2) := dk_16 16 (dk_at dksJ32_makeInt_2_1 6 rfl rfl)
theorem dJ32_makeInt_2_32 : decode cJ32_makeInt_2 32 = .ok (.invokestatic 784, 3) := dk_184 3 16 (dk_at dksJ32_makeInt_2_1 8 rfl rfl)
theorem dJ32_makeInt_2_35 : decode cJ32_makeInt_2 35 = .ok (.ishl, 1) := dk_120 (dk_at dksJ32_makeInt_2_1 11 rfl rfl)
theorem dJ32_makeInt_2_36 : decode cJ32_makeInt_2 36 = .ok (.ior, 1) := dk_128 (dk_at dksJ32_makeInt_2_1 12 rfl rfl)
theorem dJ32_makeInt_2_37 : decode cJ32_makeInt_2 37 = .ok (.iload_n 3, 1) := dk_29 (dk_at dksJ32_makeInt_2_1 13 rfl rfl)
theorem dJ32_makeInt_2_38 : decode cJ32_makeInt_2 38 = .ok (.invokestatic 796, 3) := dk_184 3 28 (dk_at dksJ32_makeInt_2_1 14 rfl rfl)
theorem dJ32_makeInt_2_41 : decode cJ32_makeInt_2 41 = .ok (.bipush 24, 2) := dk_16 24 (dk_at dksJ32_makeInt_2_1 17 rfl rfl)
theorem dJ32_makeInt_2_43 : decode cJ32_makeInt_2 43 = .ok (.bipush 24, 2) := dk_16 24 (dk_at dksJ32_makeInt_2_1 19 rfl rfl)
theorem dJ32_makeInt_2_45 : decode cJ32_makeInt_2 45 = .ok (.invokestatic 784, 3) := dk_184 3 16 (dk_at dksJ32_makeInt_2_1 21 rfl rfl)
theorem dJ32_makeInt_2_48 : decode cJ32_makeInt_2 48 = .ok (.ishl, 1) := dk_120 (dk_at dksJ32_makeInt_2_2 0 rfl rfl)
theorem dJ32_makeInt_2_49 : decode cJ32_makeInt_2 49 = .ok (.ior, 1) := dk_128 (dk_at dksJ32_makeInt_2_2 1 rfl rfl)
theorem dJ32_makeInt_2_50 : decode cJ32_makeInt_2 50 = .ok (.ireturn, 1) := dk_172 (dk_at dksJ32_makeInt_2_2 2 rfl rfl)
abbrev cJ32_toUnsignedInt_2 : ByteArray := prog_135_method_366_code
def yJ32_toUnsignedInt_2 : MethodName := ⟨RJ32, "toUnsignedInt", "(B)I"⟩
def dkwJ32_toUnsignedInt_2_0 : List UInt8 := [26, 17, 0, 255, 126, 172]
abbrev dktJ32_toUnsignedInt_2_0 : List UInt8 := dkwJ32_toUnsignedInt_2_0 ++ []
theorem dksJ32_toUnsignedInt_2_0 : cJ32_toUnsignedInt_2.data.toList.drop 0 = dktJ32_toUnsignedInt_2_0 := by decide +kernel
theorem dJ32_toUnsignedInt_2_0 : decode cJ32_toUnsignedInt_2 0 = .ok (.iload_n 0, 1) := dk_26 (dk_at dksJ32_toUnsignedInt_2_0 0 rfl rfl)
theorem dJ32_toUnsignedInt_2_1 : decode cJ32_toUnsignedInt_2 1 = .ok (.sipush 255, 3) := dk_17 0 255 (dk_at dksJ32_toUnsignedInt_2_0 1 rfl rfl)
theorem dJ32_toUnsignedInt_2_4 : decode cJ32_toUnsignedInt_2 4 = .ok (.iand, 1) := dk_126 (dk_at dksJ32_toUnsignedInt_2_0 4 rfl rfl)
theorem dJ32_toUnsignedInt_2_5 : decode cJ32_toUnsignedInt_2 5 = .ok (.ireturn, 1) := dk_172 (dk_at dksJ32_toUnsignedInt_2_0 5 rfl rfl)
theorem q487 : (Jvm.Cond.initialized "jdk/internal/misc/Unsafe") ∈ lw_all := lw_g (lw_at lw_m1 95 rfl) rfl
theorem q2058 : (Jvm.Cond.selects "jdk/internal/misc/Unsafe" ({ cls := "java/lang/Object", name := "getClass", desc := "()Ljava/lang/Class;" } : Jvm.MethodName) ({ cls := "java/lang/Object", name := "getClass", desc := "()Ljava/lang/Class;" } : Jvm.MethodName)) ∈ lw_all := lw_g (lw_at lw_m7 226 rfl) rfl
theorem q3166 : (Jvm.Cond.selects "jdk/internal/misc/Unsafe" ({ cls := "java/lang/Object", name := "equals", desc := "(Ljava/lang/Object;)Z" } : Jvm.MethodName) ({ cls := "java/lang/Object", name := "equals", desc := "(Ljava/lang/Object;)Z" } : Jvm.MethodName)) ∈ lw_all := lw_g (lw_at lw_m12 134 rfl) rfl
theorem q3735 : (Jvm.Cond.selects "jdk/internal/misc/Unsafe" ({ cls := "java/lang/Object", name := "hashCode", desc := "()I" } : Jvm.MethodName) ({ cls := "java/lang/Object", name := "hashCode", desc := "()I" } : Jvm.MethodName)) ∈ lw_all := lw_g (lw_at lw_m14 223 rfl) rfl
theorem q3885 : (Jvm.Cond.laysStatic "jdk/internal/misc/Unsafe" "ARRAY_BYTE_BASE_OFFSET" "I") ∈ lw_tbl := lw_at lw_m15 133 rfl
theorem q3896 : (Jvm.Cond.instanceMethod ({ cls := "jdk/internal/misc/Unsafe", name := "getLongUnaligned", desc := "(Ljava/lang/Object;J)J" } : Jvm.MethodName)) ∈ lw_all := lw_g (lw_at lw_m15 144 rfl) rfl
theorem q3897 : (Jvm.Cond.selects "jdk/internal/misc/Unsafe" ({ cls := "jdk/internal/misc/Unsafe", name := "getLongUnaligned", desc := "(Ljava/lang/Object;J)J" } : Jvm.MethodName) ({ cls := "jdk/internal/misc/Unsafe", name := "getLongUnaligned", desc := "(Ljava/lang/Object;J)J" } : Jvm.MethodName)) ∈ lw_all := lw_g (lw_at lw_m15 145 rfl) rfl
theorem q3898 : (Jvm.Cond.code ({ cls := "jdk/internal/misc/Unsafe", name := "getLongUnaligned", desc := "(Ljava/lang/Object;J)J" } : Jvm.MethodName) prog_135_method_334_code (4 : Nat) (Option.some Jvm.ClassFile.FieldType.long)) ∈ lw_all := lw_g (lw_at lw_m15 146 rfl) rfl
theorem q3899 : (Jvm.Cond.constantLong "jdk/internal/misc/Unsafe" (696 : Nat) (7 : Int64)) ∈ lw_all := lw_g (lw_at lw_m15 147 rfl) rfl
theorem q3900 : (Jvm.Cond.methodLink "jdk/internal/misc/Unsafe" (27 : Nat) ({ cls := "jdk/internal/misc/Unsafe", name := "getLong", desc := "(Ljava/lang/Object;J)J" } : Jvm.MethodName)) ∈ lw_all := lw_g (lw_at lw_m15 148 rfl) rfl
theorem q3901 : (Jvm.Cond.instanceMethod ({ cls := "jdk/internal/misc/Unsafe", name := "getLong", desc := "(Ljava/lang/Object;J)J" } : Jvm.MethodName)) ∈ lw_all := lw_g (lw_at lw_m15 149 rfl) rfl
theorem q3902 : (Jvm.Cond.selects "jdk/internal/misc/Unsafe" ({ cls := "jdk/internal/misc/Unsafe", name := "getLong", desc := "(Ljava/lang/Object;J)J" } : Jvm.MethodName) ({ cls := "jdk/internal/misc/Unsafe", name := "getLong", desc := "(Ljava/lang/Object;J)J" } : Jvm.MethodName)) ∈ lw_all := lw_g (lw_at lw_m15 150 rfl) rfl
theorem q3903 : (Jvm.Cond.native ({ cls := "jdk/internal/misc/Unsafe", name := "getLong", desc := "(Ljava/lang/Object;J)J" } : Jvm.MethodName)) ∈ lw_all := lw_g (lw_at lw_m15 151 rfl) rfl
theorem q3904 : (Jvm.Cond.constantLong "jdk/internal/misc/Unsafe" (349 : Nat) (3 : Int64)) ∈ lw_all := lw_g (lw_at lw_m15 152 rfl) rfl
theorem q3905 : (Jvm.Cond.methodLink "jdk/internal/misc/Unsafe" (17 : Nat) ({ cls := "jdk/internal/misc/Unsafe", name := "getInt", desc := "(Ljava/lang/Object;J)I" } : Jvm.MethodName)) ∈ lw_all := lw_g (lw_at lw_m15 153 rfl) rfl
theorem q3906 : (Jvm.Cond.instanceMethod ({ cls := "jdk/internal/misc/Unsafe", name := "getInt", desc := "(Ljava/lang/Object;J)I" } : Jvm.MethodName)) ∈ lw_all := lw_g (lw_at lw_m15 154 rfl) rfl
theorem q3907 : (Jvm.Cond.selects "jdk/internal/misc/Unsafe" ({ cls := "jdk/internal/misc/Unsafe", name := "getInt", desc := "(Ljava/lang/Object;J)I" } : Jvm.MethodName) ({ cls := "jdk/internal/misc/Unsafe", name := "getInt", desc := "(Ljava/lang/Object;J)I" } : Jvm.MethodName)) ∈ lw_all := lw_g (lw_at lw_m15 155 rfl) rfl
theorem q3908 : (Jvm.Cond.native ({ cls := "jdk/internal/misc/Unsafe", name := "getInt", desc := "(Ljava/lang/Object;J)I" } : Jvm.MethodName)) ∈ lw_all := lw_g (lw_at lw_m15 156 rfl) rfl
theorem q3909 : (Jvm.Cond.constantLong "jdk/internal/misc/Unsafe" (205 : Nat) (4 : Int64)) ∈ lw_all := lw_g (lw_at lw_m15 157 rfl) rfl
theorem q3910 : (Jvm.Cond.methodLink "jdk/internal/misc/Unsafe" (698 : Nat) ({ cls := "jdk/internal/misc/Unsafe", name := "makeLong", desc := "(II)J" } : Jvm.MethodName)) ∈ lw_all := lw_g (lw_at lw_m15 158 rfl) rfl
theorem q3911 : (Jvm.Cond.static ({ cls := "jdk/internal/misc/Unsafe", name := "makeLong", desc := "(II)J" } : Jvm.MethodName)) ∈ lw_all := lw_g (lw_at lw_m15 159 rfl) rfl
theorem q3912 : (Jvm.Cond.code ({ cls := "jdk/internal/misc/Unsafe", name := "makeLong", desc := "(II)J" } : Jvm.MethodName) prog_135_method_353_code (2 : Nat) (Option.some Jvm.ClassFile.FieldType.long)) ∈ lw_all := lw_g (lw_at lw_m15 160 rfl) rfl
theorem q3913 : (Jvm.Cond.methodLink "jdk/internal/misc/Unsafe" (791 : Nat) ({ cls := "jdk/internal/misc/Unsafe", name := "toUnsignedLong", desc := "(I)J" } : Jvm.MethodName)) ∈ lw_all := lw_g (lw_at lw_m15 161 rfl) rfl
theorem q3914 : (Jvm.Cond.static ({ cls := "jdk/internal/misc/Unsafe", name := "toUnsignedLong", desc := "(I)J" } : Jvm.MethodName)) ∈ lw_all := lw_g (lw_at lw_m15 162 rfl) rfl
theorem q3915 : (Jvm.Cond.code ({ cls := "jdk/internal/misc/Unsafe", name := "toUnsignedLong", desc := "(I)J" } : Jvm.MethodName) prog_135_method_370_code (1 : Nat) (Option.some Jvm.ClassFile.FieldType.long)) ∈ lw_all := lw_g (lw_at lw_m15 163 rfl) rfl
theorem q3916 : (Jvm.Cond.constantLong "jdk/internal/misc/Unsafe" (812 : Nat) (4294967295 : Int64)) ∈ lw_all := lw_g (lw_at lw_m15 164 rfl) rfl
theorem q3917 : (Jvm.Cond.methodLink "jdk/internal/misc/Unsafe" (784 : Nat) ({ cls := "jdk/internal/misc/Unsafe", name := "pickPos", desc := "(II)I" } : Jvm.MethodName)) ∈ lw_all := lw_g (lw_at lw_m15 165 rfl) rfl
theorem q3918 : (Jvm.Cond.static ({ cls := "jdk/internal/misc/Unsafe", name := "pickPos", desc := "(II)I" } : Jvm.MethodName)) ∈ lw_all := lw_g (lw_at lw_m15 166 rfl) rfl
theorem q3919 : (Jvm.Cond.code ({ cls := "jdk/internal/misc/Unsafe", name := "pickPos", desc := "(II)I" } : Jvm.MethodName) prog_135_method_350_code (2 : Nat) (Option.some Jvm.ClassFile.FieldType.int)) ∈ lw_all := lw_g (lw_at lw_m15 167 rfl) rfl
theorem q3920 : (Jvm.Cond.fieldLink "jdk/internal/misc/Unsafe" (351 : Nat) "jdk/internal/misc/UnsafeConstants" "BIG_ENDIAN" "Z") ∈ lw_all := lw_g (lw_at lw_m15 168 rfl) rfl
theorem q3922 : (Jvm.Cond.methodLink "jdk/internal/misc/Unsafe" (47 : Nat) ({ cls := "jdk/internal/misc/Unsafe", name := "getShort", desc := "(Ljava/lang/Object;J)S" } : Jvm.MethodName)) ∈ lw_all := lw_g (lw_at lw_m15 170 rfl) rfl
theorem q3923 : (Jvm.Cond.instanceMethod ({ cls := "jdk/internal/misc/Unsafe", name := "getShort", desc := "(Ljava/lang/Object;J)S" } : Jvm.MethodName)) ∈ lw_all := lw_g (lw_at lw_m15 171 rfl) rfl
theorem q3924 : (Jvm.Cond.selects "jdk/internal/misc/Unsafe" ({ cls := "jdk/internal/misc/Unsafe", name := "getShort", desc := "(Ljava/lang/Object;J)S" } : Jvm.MethodName) ({ cls := "jdk/internal/misc/Unsafe", name := "getShort", desc := "(Ljava/lang/Object;J)S" } : Jvm.MethodName)) ∈ lw_all := lw_g (lw_at lw_m15 172 rfl) rfl
theorem q3925 : (Jvm.Cond.native ({ cls := "jdk/internal/misc/Unsafe", name := "getShort", desc := "(Ljava/lang/Object;J)S" } : Jvm.MethodName)) ∈ lw_all := lw_g (lw_at lw_m15 173 rfl) rfl
theorem q3926 : (Jvm.Cond.constantLong "jdk/internal/misc/Unsafe" (203 : Nat) (2 : Int64)) ∈ lw_all := lw_g (lw_at lw_m15 174 rfl) rfl
theorem q3927 : (Jvm.Cond.constantLong "jdk/internal/misc/Unsafe" (702 : Nat) (6 : Int64)) ∈ lw_all := lw_g (lw_at lw_m15 175 rfl) rfl
theorem q3928 : (Jvm.Cond.methodLink "jdk/internal/misc/Unsafe" (704 : Nat) ({ cls := "jdk/internal/misc/Unsafe", name := "makeLong", desc := "(SSSS)J" } : Jvm.MethodName)) ∈ lw_all := lw_g (lw_at lw_m15 176 rfl) rfl
theorem q3929 : (Jvm.Cond.static ({ cls := "jdk/internal/misc/Unsafe", name := "makeLong", desc := "(SSSS)J" } : Jvm.MethodName)) ∈ lw_all := lw_g (lw_at lw_m15 177 rfl) rfl
theorem q3930 : (Jvm.Cond.code ({ cls := "jdk/internal/misc/Unsafe", name := "makeLong", desc := "(SSSS)J" } : Jvm.MethodName) prog_135_method_352_code (4 : Nat) (Option.some Jvm.ClassFile.FieldType.long)) ∈ lw_all := lw_g (lw_at lw_m15 178 rfl) rfl
theorem q3931 : (Jvm.Cond.methodLink "jdk/internal/misc/Unsafe" (788 : Nat) ({ cls := "jdk/internal/misc/Unsafe", name := "toUnsignedLong", desc := "(S)J" } : Jvm.MethodName)) ∈ lw_all := lw_g (lw_at lw_m15 179 rfl) rfl
theorem q3932 : (Jvm.Cond.static ({ cls := "jdk/internal/misc/Unsafe", name := "toUnsignedLong", desc := "(S)J" } : Jvm.MethodName)) ∈ lw_all := lw_g (lw_at lw_m15 180 rfl) rfl
theorem q3933 : (Jvm.Cond.code ({ cls := "jdk/internal/misc/Unsafe", name := "toUnsignedLong", desc := "(S)J" } : Jvm.MethodName) prog_135_method_369_code (1 : Nat) (Option.some Jvm.ClassFile.FieldType.long)) ∈ lw_all := lw_g (lw_at lw_m15 181 rfl) rfl
theorem q3934 : (Jvm.Cond.constantLong "jdk/internal/misc/Unsafe" (810 : Nat) (65535 : Int64)) ∈ lw_all := lw_g (lw_at lw_m15 182 rfl) rfl
theorem q3935 : (Jvm.Cond.methodLink "jdk/internal/misc/Unsafe" (39 : Nat) ({ cls := "jdk/internal/misc/Unsafe", name := "getByte", desc := "(Ljava/lang/Object;J)B" } : Jvm.MethodName)) ∈ lw_all := lw_g (lw_at lw_m15 183 rfl) rfl
theorem q3936 : (Jvm.Cond.instanceMethod ({ cls := "jdk/internal/misc/Unsafe", name := "getByte", desc := "(Ljava/lang/Object;J)B" } : Jvm.MethodName)) ∈ lw_all := lw_g (lw_at lw_m15 184 rfl) rfl
theorem q3937 : (Jvm.Cond.selects "jdk/internal/misc/Unsafe" ({ cls := "jdk/internal/misc/Unsafe", name := "getByte", desc := "(Ljava/lang/Object;J)B" } : Jvm.MethodName) ({ cls := "jdk/internal/misc/Unsafe", name := "getByte", desc := "(Ljava/lang/Object;J)B" } : Jvm.MethodName)) ∈ lw_all := lw_g (lw_at lw_m15 185 rfl) rfl
theorem q3938 : (Jvm.Cond.native ({ cls := "jdk/internal/misc/Unsafe", name := "getByte", desc := "(Ljava/lang/Object;J)B" } : Jvm.MethodName)) ∈ lw_all := lw_g (lw_at lw_m15 186 rfl) rfl
theorem q3939 : (Jvm.Cond.constantLong "jdk/internal/misc/Unsafe" (707 : Nat) (5 : Int64)) ∈ lw_all := lw_g (lw_at lw_m15 187 rfl) rfl
theorem q3940 : (Jvm.Cond.methodLink "jdk/internal/misc/Unsafe" (709 : Nat) ({ cls := "jdk/internal/misc/Unsafe", name := "makeLong", desc := "(BBBBBBBB)J" } : Jvm.MethodName)) ∈ lw_all := lw_g (lw_at lw_m15 188 rfl) rfl
theorem q3941 : (Jvm.Cond.static ({ cls := "jdk/internal/misc/Unsafe", name := "makeLong", desc := "(BBBBBBBB)J" } : Jvm.MethodName)) ∈ lw_all := lw_g (lw_at lw_m15 189 rfl) rfl
theorem q3942 : (Jvm.Cond.code ({ cls := "jdk/internal/misc/Unsafe", name := "makeLong", desc := "(BBBBBBBB)J" } : Jvm.MethodName) prog_135_method_351_code (8 : Nat) (Option.some Jvm.ClassFile.FieldType.long)) ∈ lw_all := lw_g (lw_at lw_m15 190 rfl) rfl
theorem q3943 : (Jvm.Cond.methodLink "jdk/internal/misc/Unsafe" (781 : Nat) ({ cls := "jdk/internal/misc/Unsafe", name := "toUnsignedLong", desc := "(B)J" } : Jvm.MethodName)) ∈ lw_all := lw_g (lw_at lw_m15 191 rfl) rfl
theorem q3944 : (Jvm.Cond.static ({ cls := "jdk/internal/misc/Unsafe", name := "toUnsignedLong", desc := "(B)J" } : Jvm.MethodName)) ∈ lw_all := lw_g (lw_at lw_m15 192 rfl) rfl
theorem q3945 : (Jvm.Cond.code ({ cls := "jdk/internal/misc/Unsafe", name := "toUnsignedLong", desc := "(B)J" } : Jvm.MethodName) prog_135_method_368_code (1 : Nat) (Option.some Jvm.ClassFile.FieldType.long)) ∈ lw_all := lw_g (lw_at lw_m15 193 rfl) rfl
theorem q3946 : (Jvm.Cond.constantLong "jdk/internal/misc/Unsafe" (808 : Nat) (255 : Int64)) ∈ lw_all := lw_g (lw_at lw_m15 194 rfl) rfl
theorem q3964 : (Jvm.Cond.instanceMethod ({ cls := "jdk/internal/misc/Unsafe", name := "getIntUnaligned", desc := "(Ljava/lang/Object;J)I" } : Jvm.MethodName)) ∈ lw_all := lw_g (lw_at lw_m15 212 rfl) rfl
theorem q3965 : (Jvm.Cond.selects "jdk/internal/misc/Unsafe" ({ cls := "jdk/internal/misc/Unsafe", name := "getIntUnaligned", desc := "(Ljava/lang/Object;J)I" } : Jvm.MethodName) ({ cls := "jdk/internal/misc/Unsafe", name := "getIntUnaligned", desc := "(Ljava/lang/Object;J)I" } : Jvm.MethodName)) ∈ lw_all := lw_g (lw_at lw_m15 213 rfl) rfl
theorem q3966 : (Jvm.Cond.code ({ cls := "jdk/internal/misc/Unsafe", name := "getIntUnaligned", desc := "(Ljava/lang/Object;J)I" } : Jvm.MethodName) prog_135_method_336_code (4 : Nat) (Option.some Jvm.ClassFile.FieldType.int)) ∈ lw_all := lw_g (lw_at lw_m15 214 rfl) rfl
theorem q3967 : (Jvm.Cond.methodLink "jdk/internal/misc/Unsafe" (719 : Nat) ({ cls := "jdk/internal/misc/Unsafe", name := "makeInt", desc := "(SS)I" } : Jvm.MethodName)) ∈ lw_all := lw_g (lw_at lw_m15 215 rfl) rfl
theorem q3968 : (Jvm.Cond.static ({ cls := "jdk/internal/misc/Unsafe", name := "makeInt", desc := "(SS)I" } : Jvm.MethodName)) ∈ lw_all := lw_g (lw_at lw_m15 216 rfl) rfl
theorem q3969 : (Jvm.Cond.code ({ cls := "jdk/internal/misc/Unsafe", name := "makeInt", desc := "(SS)I" } : Jvm.MethodName) prog_135_method_354_code (2 : Nat) (Option.some Jvm.ClassFile.FieldType.int)) ∈ lw_all := lw_g (lw_at lw_m15 217 rfl) rfl
theorem q3970 : (Jvm.Cond.methodLink "jdk/internal/misc/Unsafe" (792 : Nat) ({ cls := "jdk/internal/misc/Unsafe", name := "toUnsignedInt", desc := "(S)I" } : Jvm.MethodName)) ∈ lw_all := lw_g (lw_at lw_m15 218 rfl) rfl
theorem q3971 : (Jvm.Cond.static ({ cls := "jdk/internal/misc/Unsafe", name := "toUnsignedInt", desc := "(S)I" } : Jvm.MethodName)) ∈ lw_all := lw_g (lw_at lw_m15 219 rfl) rfl
theorem q3972 : (Jvm.Cond.code ({ cls := "jdk/internal/misc/Unsafe", name := "toUnsignedInt", desc := "(S)I" } : Jvm.MethodName) prog_135_method_367_code (1 : Nat) (Option.some Jvm.ClassFile.FieldType.int)) ∈ lw_all := lw_g (lw_at lw_m15 220 rfl) rfl
theorem q3973 : (Jvm.Cond.constant "jdk/internal/misc/Unsafe" (374 : Nat) (65535 : Int32)) ∈ lw_all := lw_g (lw_at lw_m15 221 rfl) rfl
theorem q3974 : (Jvm.Cond.methodLink "jdk/internal/misc/Unsafe" (723 : Nat) ({ cls := "jdk/internal/misc/Unsafe", name := "makeInt", desc := "(BBBB)I" } : Jvm.MethodName)) ∈ lw_all := lw_g (lw_at lw_m15 222 rfl) rfl
theorem q3975 : (Jvm.Cond.static ({ cls := "jdk/internal/misc/Unsafe", name := "makeInt", desc := "(BBBB)I" } : Jvm.MethodName)) ∈ lw_all := lw_g (lw_at lw_m15 223 rfl) rfl
theorem q3976 : (Jvm.Cond.code ({ cls := "jdk/internal/misc/Unsafe", name := "makeInt", desc := "(BBBB)I" } : Jvm.MethodName) prog_135_method_355_code (4 : Nat) (Option.some Jvm.ClassFile.FieldType.int)) ∈ lw_all := lw_g (lw_at lw_m15 224 rfl) rfl
theorem q3977 : (Jvm.Cond.methodLink "jdk/internal/misc/Unsafe" (796 : Nat) ({ cls := "jdk/internal/misc/Unsafe", name := "toUnsignedInt", desc := "(B)I" } : Jvm.MethodName)) ∈ lw_all := lw_g (lw_at lw_m15 225 rfl) rfl
theorem q3978 : (Jvm.Cond.static ({ cls := "jdk/internal/misc/Unsafe", name := "toUnsignedInt", desc := "(B)I" } : Jvm.MethodName)) ∈ lw_all := lw_g (lw_at lw_m15 226 rfl) rfl
theorem q3979 : (Jvm.Cond.code ({ cls := "jdk/internal/misc/Unsafe", name := "toUnsignedInt", desc := "(B)I" } : Jvm.MethodName) prog_135_method_366_code (1 : Nat) (Option.some Jvm.ClassFile.FieldType.int)) ∈ lw_all := lw_g (lw_at lw_m15 227 rfl) rfl
theorem q9691 : (Jvm.Cond.castable "jdk/internal/misc/Unsafe" "java/lang/Object") ∈ lw_tbl := lw_at lw_m39 179 rfl
