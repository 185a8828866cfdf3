/-! WasteHouse$HazardRoom -/
set_option maxRecDepth 100000
def RX41 : String := "WasteHouse$HazardRoom"
def TX41 : u_T := fun k => match k with
  | 0 => ("WasteHouse$Room", "name", "Ljava/lang/String;", true)
  | 1 => ("WasteHouse$Room", "words", "Ljava/util/ArrayList;", true)
  | 2 => ("WasteHouse$Room", "needs", "Ljava/util/ArrayList;", true)
  | _ => ("WasteHouse$HazardRoom", "rules", "LWasteHouse$HazardRules;", true)
def tyX41 : Nat → FieldType := fun k => match k with
  | 0 => .object "java/lang/String"
  | 1 => .object "java/util/ArrayList"
  | 2 => .object "java/util/ArrayList"
  | _ => .object "WasteHouse$HazardRules"
abbrev wsX410 : List Cond := u_ws RX41 TX41 4
theorem nmX41 : ∀ a, a < 4 → ∀ b, b < 4 → a ≠ b → (TX41 a).2.1 ≠ (TX41 b).2.1 := by decide +kernel
theorem tyX41_ok : ∀ k, k < 4 → parseFieldDescriptor (TX41 k).2.2.1 = some (tyX41 k) := by decide +kernel
abbrev cX41_init : ByteArray := prog_18_method_1_code
def yX41_init : MethodName := ⟨RX41, "<init>", "(LWasteHouse$HazardRules;)V"⟩
def dkwX41_init_6 : List UInt8 := [182, 0, 19, 42, 18, 69, 18, 49, 182, 0, 19, 177]
abbrev dktX41_init_6 : List UInt8 := dkwX41_init_6 ++ []
def dkwX41_init_5 : List UInt8 := [182, 0, 19, 42, 18, 63, 18, 49, 182, 0, 19, 42, 18, 65, 18, 61, 182, 0, 19, 42, 18, 67, 18, 33]
abbrev dktX41_init_5 : List UInt8 := dkwX41_init_5 ++ dktX41_init_6
def dkwX41_init_4 : List UInt8 := [182, 0, 19, 42, 18, 55, 18, 33, 182, 0, 19, 42, 18, 57, 18, 49, 182, 0, 19, 42, 18, 59, 18, 61]
abbrev dktX41_init_4 : List UInt8 := dkwX41_init_4 ++ dktX41_init_5
def dkwX41_init_3 : List UInt8 := [182, 0, 19, 42, 18, 47, 18, 49, 182, 0, 19, 42, 18, 51, 18, 49, 182, 0, 19, 42, 18, 53, 18, 37]
abbrev dktX41_init_3 : List UInt8 := dkwX41_init_3 ++ dktX41_init_4
def dkwX41_init_2 : List UInt8 := [182, 0, 19, 42, 18, 39, 18, 41, 182, 0, 19, 42, 18, 43, 18, 25, 182, 0, 19, 42, 18, 45, 18, 25]
abbrev dktX41_init_2 : List UInt8 := dkwX41_init_2 ++ dktX41_init_3
def dkwX41_init_1 : List UInt8 := [182, 0, 19, 42, 18, 27, 18, 29, 182, 0, 19, 42, 18, 31, 18, 33, 182, 0, 19, 42, 18, 35, 18, 37]
abbrev dktX41_init_1 : List UInt8 := dkwX41_init_1 ++ dktX41_init_2
def dkwX41_init_0 : List UInt8 := [42, 18, 1, 183, 0, 3, 42, 43, 181, 0, 9, 42, 18, 15, 18, 17, 182, 0, 19, 42, 18, 23, 18, 25]
abbrev dktX41_init_0 : List UInt8 := dkwX41_init_0 ++ dktX41_init_1
theorem dksX41_init_0 : cX41_init.data.toList.drop 0 = dktX41_init_0 := by decide +kernel
theorem dksX41_init_1 : cX41_init.data.toList.drop 24 = dktX41_init_1 := dk_seg dksX41_init_0 24 rfl rfl
theorem dksX41_init_2 : cX41_init.data.toList.drop 48 = dktX41_init_2 := dk_seg dksX41_init_1 24 rfl rfl
theorem dksX41_init_3 : cX41_init.data.toList.drop 72 = dktX41_init_3 := dk_seg dksX41_init_2 24 rfl rfl
theorem dksX41_init_4 : cX41_init.data.toList.drop 96 = dktX41_init_4 := dk_seg dksX41_init_3 24 rfl rfl
theorem dksX41_init_5 : cX41_init.data.toList.drop 120 = dktX41_init_5 := dk_seg dksX41_init_4 24 rfl rfl
theorem dksX41_init_6 : cX41_init.data.toList.drop 144 = dktX41_init_6 := dk_seg dksX41_init_5 24 rfl rfl
theorem dX41_init_0 : decode cX41_init 0 = .ok (.aload_n 0, 1) := dk_42 (dk_at dksX41_init_0 0 rfl rfl)
theorem dX41_init_1 : decode cX41_init 1 = .ok (.ldc 1, 2) := dk_18 1 (dk_at dksX41_init_0 1 rfl rfl)
theorem dX41_init_3 : decode cX41_init 3 = .ok (.invokespecial 3, 3) := dk_183 0 3 (dk_at dksX41_init_0 3 rfl rfl)
theorem dX41_init_6 : decode cX41_init 6 = .ok (.aload_n 0, 1) := dk_42 (dk_at dksX41_init_0 6 rfl rfl)
theorem dX41_init_7 : decode cX41_init 7 = .ok (.aload_n 1, 1) := dk_43 (dk_at dksX41_init_0 7 rfl rfl)
theorem dX41_init_8 : decode cX41_init 8 = .ok (.putfield 9, 3) := dk_181 0 9 (dk_at dksX41_init_0 8 rfl rfl)
theorem dX41_init_11 : decode cX41_init 11 = .ok (.aload_n 0, 1) := dk_42 (dk_at dksX41_init_0 11 rfl rfl)
theorem dX41_init_12 : decode cX41_init 12 = .ok (.ldc 15, 2) := dk_18 15 (dk_at dksX41_init_0 12 rfl rfl)
theorem dX41_init_14 : decode cX41_init 14 = .ok (.ldc 17, 2) := dk_18 17 (dk_at dksX41_init_0 14 rfl rfl)
theorem dX41_init_16 : decode cX41_init 16 = .ok (.invokevirtual 19, 3) := dk_182 0 19 (dk_at dksX41_init_0 16 rfl rfl)
theorem dX41_init_19 : decode cX41_init 19 = .ok (.aload_n 0, 1) := dk_42 (dk_at dksX41_init_0 19 rfl rfl)
theorem dX41_init_20 : decode cX41_init 20 = .ok (.ldc 23, 2) := dk_18 23 (dk_at dksX41_init_0 20 rfl rfl)
theorem dX41_init_22 : decode cX41_init 22 = .ok (.ldc 25, 2) := dk_18 25 (dk_at dksX41_init_0 22 rfl rfl)
theorem dX41_init_24 : decode cX41_init 24 = .ok (.invokevirtual 19, 3) := dk_182 0 19 (dk_at dksX41_init_1 0 rfl rfl)
theorem dX41_init_27 : decode cX41_init 27 = .ok (.aload_n 0, 1) := dk_42 (dk_at dksX41_init_1 3 rfl rfl)
theorem dX41_init_28 : decode cX41_init 28 = .ok (.ldc 27, 2) := dk_18 27 (dk_at dksX41_init_1 4 rfl rfl)
theorem dX41_init_30 : decode cX41_init 30 = .ok (.ldc 29, 2) := dk_18 29 (dk_at dksX41_init_1 6 rfl rfl)
theorem dX41_init_32 : decode cX41_init 32 = .ok (.invokevirtual 19, 3) := dk_182 0 19 (dk_at dksX41_init_1 8 rfl rfl)
theorem dX41_init_35 : decode cX41_init 35 = .ok (.aload_n 0, 1) := dk_42 (dk_at dksX41_init_1 11 rfl rfl)
theorem dX41_init_36 : decode cX41_init 36 = .ok (.ldc 31, 2) := dk_18 31 (dk_at dksX41_init_1 12 rfl rfl)
theorem dX41_init_38 : decode cX41_init 38 = .ok (.ldc 33, 2) := dk_18 33 (dk_at dksX41_init_1 14 rfl rfl)
theorem dX41_init_40 : decode cX41_init 40 = .ok (.invokevirtual 19, 3) := dk_182 0 19 (dk_at dksX41_init_1 16 rfl rfl)
theorem dX41_init_43 : decode cX41_init 43 = .ok (.aload_n 0, 1) := dk_42 (dk_at dksX41_init_1 19 rfl rfl)
theorem dX41_init_44 : decode cX41_init 44 = .ok (.ldc 35, 2) := dk_18 35 (dk_at dksX41_init_1 20 rfl rfl)
theorem dX41_init_46 : decode cX41_init 46 = .ok (.ldc 37, 2) := dk_18 37 (dk_at dksX41_init_1 22 rfl rfl)
theorem dX41_init_48 : decode cX41_init 48 = .ok (.invokevirtual 19, 3) := dk_182 0 19 (dk_at dksX41_init_2 0 rfl rfl)
theorem dX41_init_51 : decode cX41_init 51 = .ok (.aload_n 0, 1) := dk_42 (dk_at dksX41_init_2 3 rfl rfl)
theorem dX41_init_52 : decode cX41_init 52 = .ok (.ldc 39, 2) := dk_18 39 (dk_at dksX41_init_2 4 rfl rfl)
theorem dX41_init_54 : decode cX41_init 54 = .ok (.ldc 41, 2) := dk_18 41 (dk_at dksX41_init_2 6 rfl rfl)
theorem dX41_init_56 : decode cX41_init 56 = .ok (.invokevirtual 19, 3) := dk_182 0 19 (dk_at dksX41_init_2 8 rfl rfl)
theorem dX41_init_59 : decode cX41_init 59 = .ok (.aload_n 0, 1) := dk_42 (dk_at dksX41_init_2 11 rfl rfl)
theorem dX41_init_60 : decode cX41_init 60 = .ok (.ldc 43, 2) := dk_18 43 (dk_at dksX41_init_2 12 rfl rfl)
theorem dX41_init_62 : decode cX41_init 62 = .ok (.ldc 25, 2) := dk_18 25 (dk_at dksX41_init_2 14 rfl rfl)
theorem dX41_init_64 : decode cX41_init 64 = .ok (.invokevirtual 19, 3) := dk_182 0 19 (dk_at dksX41_init_2 16 rfl rfl)
theorem dX41_init_67 : decode cX41_init 67 = .ok (.aload_n 0, 1) := dk_42 (dk_at dksX41_init_2 19 rfl rfl)
theorem dX41_init_68 : decode cX41_init 68 = .ok (.ldc 45, 2) := dk_18 45 (dk_at dksX41_init_2 20 rfl rfl)
theorem dX41_init_70 : decode cX41_init 70 = .ok (.ldc 25, 2) := dk_18 25 (dk_at dksX41_init_2 22 rfl rfl)
theorem dX41_init_72 : decode cX41_init 72 = .ok (.invokevirtual 19, 3) := dk_182 0 19 (dk_at dksX41_init_3 0 rfl rfl)
theorem dX41_init_75 : decode cX41_init 75 = .ok (.aload_n 0, 1) := dk_42 (dk_at dksX41_init_3 3 rfl rfl)
theorem dX41_init_76 : decode cX41_init 76 = .ok (.ldc 47, 2) := dk_18 47 (dk_at dksX41_init_3 4 rfl rfl)
theorem dX41_init_78 : decode cX41_init 78 = .ok (.ldc 49, 2) := dk_18 49 (dk_at dksX41_init_3 6 rfl rfl)
theorem dX41_init_80 : decode cX41_init 80 = .ok (.invokevirtual 19, 3) := dk_182 0 19 (dk_at dksX41_init_3 8 rfl rfl)
theorem dX41_init_83 : decode cX41_init 83 = .ok (.aload_n 0, 1) := dk_42 (dk_at dksX41_init_3 11 rfl rfl)
theorem dX41_init_84 : decode cX41_init 84 = .ok (.ldc 51, 2) := dk_18 51 (dk_at dksX41_init_3 12 rfl rfl)
theorem dX41_init_86 : decode cX41_init 86 = .ok (.ldc 49, 2) := dk_18 49 (dk_at dksX41_init_3 14 rfl rfl)
theorem dX41_init_88 : decode cX41_init 88 = .ok (.invokevirtual 19, 3) := dk_182 0 19 (dk_at dksX41_init_3 16 rfl rfl)
theorem dX41_init_91 : decode cX41_init 91 = .ok (.aload_n 0, 1) := dk_42 (dk_at dksX41_init_3 19 rfl rfl)
theorem dX41_init_92 : decode cX41_init 92 = .ok (.ldc 53, 2) := dk_18 53 (dk_at dksX41_init_3 20 rfl rfl)
theorem dX41_init_94 : decode cX41_init 94 = .ok (.ldc 37, 2) := dk_18 37 (dk_at dksX41_init_3 22 rfl rfl)
theorem dX41_init_96 : decode cX41_init 96 = .ok (.invokevirtual 19, 3) := dk_182 0 19 (dk_at dksX41_init_4 0 rfl rfl)
theorem dX41_init_99 : decode cX41_init 99 = .ok (.aload_n 0, 1) := dk_42 (dk_at dksX41_init_4 3 rfl rfl)
theorem dX41_init_100 : decode cX41_init 100 = .ok (.ldc 55, 2) := dk_18 55 (dk_at dksX41_init_4 4 rfl rfl)
theorem dX41_init_102 : decode cX41_init 102 = .ok (.ldc 33, 2) := dk_18 33 (dk_at dksX41_init_4 6 rfl rfl)
theorem dX41_init_104 : decode cX41_init 104 = .ok (.invokevirtual 19, 3) := dk_182 0 19 (dk_at dksX41_init_4 8 rfl rfl)
theorem dX41_init_107 : decode cX41_init 107 = .ok (.aload_n 0, 1) := dk_42 (dk_at dksX41_init_4 11 rfl rfl)
theorem dX41_init_108 : decode cX41_init 108 = .ok (.ldc 57, 2) := dk_18 57 (dk_at dksX41_init_4 12 rfl rfl)
theorem dX41_init_110 : decode cX41_init 110 = .ok (.ldc 49, 2) := dk_18 49 (dk_at dksX41_init_4 14 rfl rfl)
theorem dX41_init_112 : decode cX41_init 112 = .ok (.invokevirtual 19, 3) := dk_182 0 19 (dk_at dksX41_init_4 16 rfl rfl)
theorem dX41_init_115 : decode cX41_init 115 = .ok (.aload_n 0, 1) := dk_42 (dk_at dksX41_init_4 19 rfl rfl)
theorem dX41_init_116 : decode cX41_init 116 = .ok (.ldc 59, 2) := dk_18 59 (dk_at dksX41_init_4 20 rfl rfl)
theorem dX41_init_118 : decode cX41_init 118 = .ok (.ldc 61, 2) := dk_18 61 (dk_at dksX41_init_4 22 rfl rfl)
theorem dX41_init_120 : decode cX41_init 120 = .ok (.invokevirtual 19, 3) := dk_182 0 19 (dk_at dksX41_init_5 0 rfl rfl)
theorem dX41_init_123 : decode cX41_init 123 = .ok (.aload_n 0, 1) := dk_42 (dk_at dksX41_init_5 3 rfl rfl)
theorem dX41_init_124 : decode cX41_init 124 = .ok (.ldc 63, 2) := dk_18 63 (dk_at dksX41_init_5 4 rfl rfl)
theorem dX41_init_126 : decode cX41_init 126 = .ok (.ldc 49, 2) := dk_18 49 (dk_at dksX41_init_5 6 rfl rfl)
theorem dX41_init_128 : decode cX41_init 128 = .ok (.invokevirtual 19, 3) := dk_182 0 19 (dk_at dksX41_init_5 8 rfl rfl)
theorem dX41_init_131 : decode cX41_init 131 = .ok (.aload_n 0, 1) := dk_42 (dk_at dksX41_init_5 11 rfl rfl)
theorem dX41_init_132 : decode cX41_init 132 = .ok (.ldc 65, 2) := dk_18 65 (dk_at dksX41_init_5 12 rfl rfl)
theorem dX41_init_134 : decode cX41_init 134 = .ok (.ldc 61, 2) := dk_18 61 (dk_at dksX41_init_5 14 rfl rfl)
theorem dX41_init_136 : decode cX41_init 136 = .ok (.invokevirtual 19, 3) := dk_182 0 19 (dk_at dksX41_init_5 16 rfl rfl)
theorem dX41_init_139 : decode cX41_init 139 = .ok (.aload_n 0, 1) := dk_42 (dk_at dksX41_init_5 19 rfl rfl)
theorem dX41_init_140 : decode cX41_init 140 = .ok (.ldc 67, 2) := dk_18 67 (dk_at dksX41_init_5 20 rfl rfl)
theorem dX41_init_142 : decode cX41_init 142 = .ok (.ldc 33, 2) := dk_18 33 (dk_at dksX41_init_5 22 rfl rfl)
theorem dX41_init_144 : decode cX41_init 144 = .ok (.invokevirtual 19, 3) := dk_182 0 19 (dk_at dksX41_init_6 0 rfl rfl)
theorem dX41_init_147 : decode cX41_init 147 = .ok (.aload_n 0, 1) := dk_42 (dk_at dksX41_init_6 3 rfl rfl)
theorem dX41_init_148 : decode cX41_init 148 = .ok (.ldc 69, 2) := dk_18 69 (dk_at dksX41_init_6 4 rfl rfl)
theorem dX41_init_150 : decode cX41_init 150 = .ok (.ldc 49, 2) := dk_18 49 (dk_at dksX41_init_6 6 rfl rfl)
theorem dX41_init_152 : decode cX41_init 152 = .ok (.invokevirtual 19, 3) := dk_182 0 19 (dk_at dksX41_init_6 8 rfl rfl)
theorem dX41_init_155 : decode cX41_init 155 = .ok (.return_, 1) := dk_177 (dk_at dksX41_init_6 11 rfl rfl)
abbrev cX41_call : ByteArray := prog_18_method_2_code
def yX41_call : MethodName := ⟨RX41, "call", "(I[J)J"⟩
def dkwX41_call_11 : List UInt8 := [182, 0, 122, 133, 173, 42, 180, 0, 9, 29, 182, 0, 124, 133, 173]
abbrev dktX41_call_11 : List UInt8 := dkwX41_call_11 ++ []
def dkwX41_call_10 : List UInt8 := [42, 180, 0, 9, 29, 21, 4, 44, 5, 47, 136, 182, 0, 119, 173, 42, 180, 0, 9, 29, 21, 4]
abbrev dktX41_call_10 : List UInt8 := dkwX41_call_10 ++ dktX41_call_11
def dkwX41_call_9 : List UInt8 := [180, 0, 9, 29, 21, 4, 44, 5, 47, 136, 182, 0, 113, 133, 173, 42, 180, 0, 9, 29, 182, 0, 116, 173]
abbrev dktX41_call_9 : List UInt8 := dkwX41_call_9 ++ dktX41_call_10
def dkwX41_call_8 : List UInt8 := [42, 180, 0, 9, 29, 21, 4, 182, 0, 108, 133, 173, 42, 180, 0, 9, 29, 182, 0, 111, 133, 173, 42]
abbrev dktX41_call_8 : List UInt8 := dkwX41_call_8 ++ dktX41_call_9
def dkwX41_call_7 : List UInt8 := [182, 0, 100, 133, 173, 42, 180, 0, 9, 29, 182, 0, 104, 133, 173, 42, 180, 0, 9, 182, 0, 106, 133, 173]
abbrev dktX41_call_7 : List UInt8 := dkwX41_call_7 ++ dktX41_call_8
def dkwX41_call_6 : List UInt8 := [182, 0, 96, 133, 173, 42, 180, 0, 9, 44, 3, 47, 182, 0, 98, 133, 173, 42, 180, 0, 9, 29]
abbrev dktX41_call_6 : List UInt8 := dkwX41_call_6 ++ dktX41_call_7
def dkwX41_call_5 : List UInt8 := [160, 0, 7, 4, 167, 0, 4, 3, 182, 0, 93, 184, 0, 82, 173, 42, 180, 0, 9, 44, 3, 47]
abbrev dktX41_call_5 : List UInt8 := dkwX41_call_5 ++ dktX41_call_6
def dkwX41_call_4 : List UInt8 := [182, 0, 86, 184, 0, 82, 173, 42, 180, 0, 9, 182, 0, 89, 10, 173, 42, 180, 0, 9, 29, 4]
abbrev dktX41_call_4 : List UInt8 := dkwX41_call_4 ++ dktX41_call_5
def dkwX41_call_3 : List UInt8 := [180, 0, 9, 29, 44, 4, 47, 44, 5, 47, 182, 0, 79, 184, 0, 82, 173, 42, 180, 0, 9, 29, 21, 4]
abbrev dktX41_call_3 : List UInt8 := dkwX41_call_3 ++ dktX41_call_4
def dkwX41_call_2 : List UInt8 := [42, 180, 0, 9, 182, 0, 71, 133, 173, 42, 180, 0, 9, 44, 3, 47, 182, 0, 76, 133, 173, 42]
abbrev dktX41_call_2 : List UInt8 := dkwX41_call_2 ++ dktX41_call_3
def dkwX41_call_1 : List UInt8 := [170, 0, 0, 0, 0, 0, 1, 38, 0, 0, 0, 0, 0, 0, 0, 16, 0, 0, 0, 84, 0, 0, 0, 93, 0, 0, 0, 105, 0, 0, 0, 123, 0, 0, 0, 137, 0, 0, 0, 146, 0, 0, 0, 167, 0, 0, 0, 179, 0, 0, 0, 191, 0, 0, 0, 201, 0, 0, 0, 211, 0, 0, 0, 220, 0, 0, 0, 232, 0, 0, 0, 242, 0, 0, 1, 2, 0, 0, 1, 11, 0, 0, 1, 26]
abbrev dktX41_call_1 : List UInt8 := dkwX41_call_1 ++ dktX41_call_2
def dkwX41_call_0 : List UInt8 := [44, 3, 47, 136, 62, 44, 4, 47, 136, 54, 4, 27]
abbrev dktX41_call_0 : List UInt8 := dkwX41_call_0 ++ dktX41_call_1
theorem dksX41_call_0 : cX41_call.data.toList.drop 0 = dktX41_call_0 := by decide +kernel
theorem dksX41_call_1 : cX41_call.data.toList.drop 12 = dktX41_call_1 := dk_seg dksX41_call_0 12 rfl rfl
theorem dksX41_call_2 : cX41_call.data.toList.drop 96 = dktX41_call_2 := dk_seg dksX41_call_1 84 rfl rfl
theorem dksX41_call_3 : cX41_call.data.toList.drop 118 = dktX41_call_3 := dk_seg dksX41_call_2 22 rfl rfl
theorem dksX41_call_4 : cX41_call.data.toList.drop 142 = dktX41_call_4 := dk_seg dksX41_call_3 24 rfl rfl
theorem dksX41_call_5 : cX41_call.data.toList.drop 164 = dktX41_call_5 := dk_seg dksX41_call_4 22 rfl rfl
theorem dksX41_call_6 : cX41_call.data.toList.drop 186 = dktX41_call_6 := dk_seg dksX41_call_5 22 rfl rfl
theorem dksX41_call_7 : cX41_call.data.toList.drop 208 = dktX41_call_7 := dk_seg dksX41_call_6 22 rfl rfl
theorem dksX41_call_8 : cX41_call.data.toList.drop 232 = dktX41_call_8 := dk_seg dksX41_call_7 24 rfl rfl
theorem dksX41_call_9 : cX41_call.data.toList.drop 255 = dktX41_call_9 := dk_seg dksX41_call_8 23 rfl rfl
theorem dksX41_call_10 : cX41_call.data.toList.drop 279 = dktX41_call_10 := dk_seg dksX41_call_9 24 rfl rfl
theorem dksX41_call_11 : cX41_call.data.toList.drop 301 = dktX41_call_11 := dk_seg dksX41_call_10 22 rfl rfl
theorem dX41_call_0 : decode cX41_call 0 = .ok (.aload_n 2, 1) := dk_44 (dk_at dksX41_call_0 0 rfl rfl)
theorem dX41_call_1 : decode cX41_call 1 = .ok (.iconst 0, 1) := dk_3 (dk_at dksX41_call_0 1 rfl rfl)
theorem dX41_call_2 : decode cX41_call 2 = .ok (.laload, 1) := dk_47 (dk_at dksX41_call_0 2 rfl rfl)
theorem dX41_call_3 : decode cX41_call 3 = .ok (.l2i, 1) := dk_136 (dk_at dksX41_call_0 3 rfl rfl)
theorem dX41_call_4 : decode cX41_call 4 = .ok (.istore_n 3, 1) := dk_62 (dk_at dksX41_call_0 4 rfl rfl)
theorem dX41_call_5 : decode cX41_call 5 = .ok (.aload_n 2, 1) := dk_44 (dk_at dksX41_call_0 5 rfl rfl)
theorem dX41_call_6 : decode cX41_call 6 = .ok (.iconst 1, 1) := dk_4 (dk_at dksX41_call_0 6 rfl rfl)
theorem dX41_call_7 : decode cX41_call 7 = .ok (.laload, 1) := dk_47 (dk_at dksX41_call_0 7 rfl rfl)
theorem dX41_call_8 : decode cX41_call 8 = .ok (.l2i, 1) := dk_136 (dk_at dksX41_call_0 8 rfl rfl)
theorem dX41_call_9 : decode cX41_call 9 = .ok (.istore 4, 2) := dk_54 4 (dk_at dksX41_call_0 9 rfl rfl)
theorem dX41_call_11 : decode cX41_call 11 = .ok (.iload_n 1, 1) := dk_27 (dk_at dksX41_call_0 11 rfl rfl)
theorem dX41_call_12 : decode cX41_call 12 = .ok (.tableswitch 294 0 16 #[84, 93, 105, 123, 137, 146, 167, 179, 191, 201, 211, 220, 232, 242, 258, 267, 282], 84) := by decide +kernel
theorem dX41_call_96 : decode cX41_call 96 = .ok (.aload_n 0, 1) := dk_42 (dk_at dksX41_call_2 0 rfl rfl)
theorem dX41_call_97 : decode cX41_call 97 = .ok (.getfield 9, 3) := dk_180 0 9 (dk_at dksX41_call_2 1 rfl rfl)
theorem dX41_call_100 : decode cX41_call 100 = .ok (.invokevirtual 71, 3) := dk_182 0 71 (dk_at dksX41_call_2 4 rfl rfl)
theorem dX41_call_103 : decode cX41_call 103 = .ok (.i2l, 1) := dk_133 (dk_at dksX41_call_2 7 rfl rfl)
theorem dX41_call_104 : decode cX41_call 104 = .ok (.lreturn, 1) := dk_173 (dk_at dksX41_call_2 8 rfl rfl)
theorem dX41_call_105 : decode cX41_call 105 = .ok (.aload_n 0, 1) := dk_42 (dk_at dksX41_call_2 9 rfl rfl)
theorem dX41_call_106 : decode cX41_call 106 = .ok (.getfield 9, 3) := dk_180 0 9 (dk_at dksX41_call_2 10 rfl rfl)
theorem dX41_call_109 : decode cX41_call 109 = .ok (.aload_n 2, 1) := dk_44 (dk_at dksX41_call_2 13 rfl rfl)
theorem dX41_call_110 : decode cX41_call 110 = .ok (.iconst 0, 1) := dk_3 (dk_at dksX41_call_2 14 rfl rfl)
theorem dX41_call_111 : decode cX41_call 111 = .ok (.laload, 1) := dk_47 (dk_at dksX41_call_2 15 rfl rfl)
theorem dX41_call_112 : decode cX41_call 112 = .ok (.invokevirtual 76, 3) := dk_182 0 76 (dk_at dksX41_call_2 16 rfl rfl)
theorem dX41_call_115 : decode cX41_call 115 = .ok (.i2l, 1) := dk_133 (dk_at dksX41_call_2 19 rfl rfl)
theorem dX41_call_116 : decode cX41_call 116 = .ok (.lreturn, 1) := dk_173 (dk_at dksX41_call_2 20 rfl rfl)
theorem dX41_call_117 : decode cX41_call 117 = .ok (.aload_n 0, 1) := dk_42 (dk_at dksX41_call_2 21 rfl rfl)
theorem dX41_call_118 : decode cX41_call 118 = .ok (.getfield 9, 3) := dk_180 0 9 (dk_at dksX41_call_3 0 rfl rfl)
theorem dX41_call_121 : decode cX41_call 121 = .ok (.iload_n 3, 1) := dk_29 (dk_at dksX41_call_3 3 rfl rfl)
theorem dX41_call_122 : decode cX41_call 122 = .ok (.aload_n 2, 1) := dk_44 (dk_at dksX41_call_3 4 rfl rfl)
theorem dX41_call_123 : decode cX41_call 123 = .ok (.iconst 1, 1) := dk_4 (dk_at dksX41_call_3 5 rfl rfl)
theorem dX41_call_124 : decode cX41_call 124 = .ok (.laload, 1) := dk_47 (dk_at dksX41_call_3 6 rfl rfl)
theorem dX41_call_125 : decode cX41_call 125 = .ok (.aload_n 2, 1) := dk_44 (dk_at dksX41_call_3 7 rfl rfl)
theorem dX41_call_126 : decode cX41_call 126 = .ok (.iconst 2, 1) := dk_5 (dk_at dksX41_call_3 8 rfl rfl)
theorem dX41_call_127 : decode cX41_call 127 = .ok (.laload, 1) := dk_47 (dk_at dksX41_call_3 9 rfl rfl)
theorem dX41_call_128 : decode cX41_call 128 = .ok (.invokevirtual 79, 3) := dk_182 0 79 (dk_at dksX41_call_3 10 rfl rfl)
theorem dX41_call_131 : decode cX41_call 131 = .ok (.invokestatic 82, 3) := dk_184 0 82 (dk_at dksX41_call_3 13 rfl rfl)
theorem dX41_call_134 : decode cX41_call 134 = .ok (.lreturn, 1) := dk_173 (dk_at dksX41_call_3 16 rfl rfl)
theorem dX41_call_135 : decode cX41_call 135 = .ok (.aload_n 0, 1) := dk_42 (dk_at dksX41_call_3 17 rfl rfl)
theorem dX41_call_136 : decode cX41_call 136 = .ok (.getfield 9, 3) := dk_180 0 9 (dk_at dksX41_call_3 18 rfl rfl)
theorem dX41_call_139 : decode cX41_call 139 = .ok (.iload_n 3, 1) := dk_29 (dk_at dksX41_call_3 21 rfl rfl)
theorem dX41_call_140 : decode cX41_call 140 = .ok (.iload 4, 2) := dk_21 4 (dk_at dksX41_call_3 22 rfl rfl)
theorem dX41_call_142 : decode cX41_call 142 = .ok (.invokevirtual 86, 3) := dk_182 0 86 (dk_at dksX41_call_4 0 rfl rfl)
theorem dX41_call_145 : decode cX41_call 145 = .ok (.invokestatic 82, 3) := dk_184 0 82 (dk_at dksX41_call_4 3 rfl rfl)
theorem dX41_call_148 : decode cX41_call 148 = .ok (.lreturn, 1) := dk_173 (dk_at dksX41_call_4 6 rfl rfl)
theorem dX41_call_149 : decode cX41_call 149 = .ok (.aload_n 0, 1) := dk_42 (dk_at dksX41_call_4 7 rfl rfl)
theorem dX41_call_150 : decode cX41_call 150 = .ok (.getfield 9, 3) := dk_180 0 9 (dk_at dksX41_call_4 8 rfl rfl)
theorem dX41_call_153 : decode cX41_call 153 = .ok (.invokevirtual 89, 3) := dk_182 0 89 (dk_at dksX41_call_4 11 rfl rfl)
theorem dX41_call_156 : decode cX41_call 156 = .ok (.lconst 1, 1) := dk_10 (dk_at dksX41_call_4 14 rfl rfl)
theorem dX41_call_157 : decode cX41_call 157 = .ok (.lreturn, 1) := dk_173 (dk_at dksX41_call_4 15 rfl rfl)
theorem dX41_call_158 : decode cX41_call 158 = .ok (.aload_n 0, 1) := dk_42 (dk_at dksX41_call_4 16 rfl rfl)
theorem dX41_call_159 : decode cX41_call 159 = .ok (.getfield 9, 3) := dk_180 0 9 (dk_at dksX41_call_4 17 rfl rfl)
theorem dX41_call_162 : decode cX41_call 162 = .ok (.iload_n 3, 1) := dk_29 (dk_at dksX41_call_4 20 rfl rfl)
theorem dX41_call_163 : decode cX41_call 163 = .ok (.iconst 1, 1) := dk_4 (dk_at dksX41_call_4 21 rfl rfl)
theorem dX41_call_164 : decode cX41_call 164 = .ok (.if_icmp .ne 7, 3) := dk_160 0 7 (dk_at dksX41_call_5 0 rfl rfl)
theorem dX41_call_167 : decode cX41_call 167 = .ok (.iconst 1, 1) := dk_4 (dk_at dksX41_call_5 3 rfl rfl)
theorem dX41_call_168 : decode cX41_call 168 = .ok (.goto 4, 3) := dk_167 0 4 (dk_at dksX41_call_5 4 rfl rfl)
theorem dX41_call_171 : decode cX41_call 171 = .ok (.iconst 0, 1) := dk_3 (dk_at dksX41_call_5 7 rfl rfl)
theorem dX41_call_172 : decode cX41_call 172 = .ok (.invokevirtual 93, 3) := dk_182 0 93 (dk_at dksX41_call_5 8 rfl rfl)
theorem dX41_call_175 : decode cX41_call 175 = .ok (.invokestatic 82, 3) := dk_184 0 82 (dk_at dksX41_call_5 11 rfl rfl)
theorem dX41_call_178 : decode cX41_call 178 = .ok (.lreturn, 1) := dk_173 (dk_at dksX41_call_5 14 rfl rfl)
theorem dX41_call_179 : decode cX41_call 179 = .ok (.aload_n 0, 1) := dk_42 (dk_at dksX41_call_5 15 rfl rfl)
theorem dX41_call_180 : decode cX41_call 180 = .ok (.getfield 9, 3) := dk_180 0 9 (dk_at dksX41_call_5 16 rfl rfl)
theorem dX41_call_183 : decode cX41_call 183 = .ok (.aload_n 2, 1) := dk_44 (dk_at dksX41_call_5 19 rfl rfl)
theorem dX41_call_184 : decode cX41_call 184 = .ok (.iconst 0, 1) := dk_3 (dk_at dksX41_call_5 20 rfl rfl)
theorem dX41_call_185 : decode cX41_call 185 = .ok (.laload, 1) := dk_47 (dk_at dksX41_call_5 21 rfl rfl)
theorem dX41_call_186 : decode cX41_call 186 = .ok (.invokevirtual 96, 3) := dk_182 0 96 (dk_at dksX41_call_6 0 rfl rfl)
theorem dX41_call_189 : decode cX41_call 189 = .ok (.i2l, 1) := dk_133 (dk_at dksX41_call_6 3 rfl rfl)
theorem dX41_call_190 : decode cX41_call 190 = .ok (.lreturn, 1) := dk_173 (dk_at dksX41_call_6 4 rfl rfl)
theorem dX41_call_191 : decode cX41_call 191 = .ok (.aload_n 0, 1) := dk_42 (dk_at dksX41_call_6 5 rfl rfl)
theorem dX41_call_192 : decode cX41_call 192 = .ok (.getfield 9, 3) := dk_180 0 9 (dk_at dksX41_call_6 6 rfl rfl)
theorem dX41_call_195 : decode cX41_call 195 = .ok (.aload_n 2, 1) := dk_44 (dk_at dksX41_call_6 9 rfl rfl)
theorem dX41_call_196 : decode cX41_call 196 = .ok (.iconst 0, 1) := dk_3 (dk_at dksX41_call_6 10 rfl rfl)
theorem dX41_call_197 : decode cX41_call 197 = .ok (.laload, 1) := dk_47 (dk_at dksX41_call_6 11 rfl rfl)
theorem dX41_call_198 : decode cX41_call 198 = .ok (.invokevirtual 98, 3) := dk_182 0 98 (dk_at dksX41_call_6 12 rfl rfl)
theorem dX41_call_201 : decode cX41_call 201 = .ok (.i2l, 1) := dk_133 (dk_at dksX41_call_6 15 rfl rfl)
theorem dX41_call_202 : decode cX41_call 202 = .ok (.lreturn, 1) := dk_173 (dk_at dksX41_call_6 16 rfl rfl)
theorem dX41_call_203 : decode cX41_call 203 = .ok (.aload_n 0, 1) := dk_42 (dk_at dksX41_call_6 17 rfl rfl)
theorem dX41_call_204 : decode cX41_call 204 = .ok (.getfield 9, 3) := dk_180 0 9 (dk_at dksX41_call_6 18 rfl rfl)
theorem dX41_call_207 : decode cX41_call 207 = .ok (.iload_n 3, 1) := dk_29 (dk_at dksX41_call_6 21 rfl rfl)
theorem dX41_call_208 : decode cX41_call 208 = .ok (.invokevirtual 100, 3) := dk_182 0 100 (dk_at dksX41_call_7 0 rfl rfl)
theorem dX41_call_211 : decode cX41_call 211 = .ok (.i2l, 1) := dk_133 (dk_at dksX41_call_7 3 rfl rfl)
theorem dX41_call_212 : decode cX41_call 212 = .ok (.lreturn, 1) := dk_173 (dk_at dksX41_call_7 4 rfl rfl)
theorem dX41_call_213 : decode cX41_call 213 = .ok (.aload_n 0, 1) := dk_42 (dk_at dksX41_call_7 5 rfl rfl)
theorem dX41_call_214 : decode cX41_call 214 = .ok (.getfield 9, 3) := dk_180 0 9 (dk_at dksX41_call_7 6 rfl rfl)
theorem dX41_call_217 : decode cX41_call 217 = .ok (.iload_n 3, 1) := dk_29 (dk_at dksX41_call_7 9 rfl rfl)
theorem dX41_call_218 : decode cX41_call 218 = .ok (.invokevirtual 104, 3) := dk_182 0 104 (dk_at dksX41_call_7 10 rfl rfl)
theorem dX41_call_221 : decode cX41_call 221 = .ok (.i2l, 1) := dk_133 (dk_at dksX41_call_7 13 rfl rfl)
theorem dX41_call_222 : decode cX41_call 222 = .ok (.lreturn, 1) := dk_173 (dk_at dksX41_call_7 14 rfl rfl)
theorem dX41_call_223 : decode cX41_call 223 = .ok (.aload_n 0, 1) := dk_42 (dk_at dksX41_call_7 15 rfl rfl)
theorem dX41_call_224 : decode cX41_call 224 = .ok (.getfield 9, 3) := dk_180 0 9 (dk_at dksX41_call_7 16 rfl rfl)
theorem dX41_call_227 : decode cX41_call 227 = .ok (.invokevirtual 106, 3) := dk_182 0 106 (dk_at dksX41_call_7 19 rfl rfl)
theorem dX41_call_230 : decode cX41_call 230 = .ok (.i2l, 1) := dk_133 (dk_at dksX41_call_7 22 rfl rfl)
theorem dX41_call_231 : decode cX41_call 231 = .ok (.lreturn, 1) := dk_173 (dk_at dksX41_call_7 23 rfl rfl)
theorem dX41_call_232 : decode cX41_call 232 = .ok (.aload_n 0, 1) := dk_42 (dk_at dksX41_call_8 0 rfl rfl)
theorem dX41_call_233 : decode cX41_call 233 = .ok (.getfield 9, 3) := dk_180 0 9 (dk_at dksX41_call_8 1 rfl rfl)
theorem dX41_call_236 : decode cX41_call 236 = .ok (.iload_n 3, 1) := dk_29 (dk_at dksX41_call_8 4 rfl rfl)
theorem dX41_call_237 : decode cX41_call 237 = .ok (.iload 4, 2) := dk_21 4 (dk_at dksX41_call_8 5 rfl rfl)
theorem dX41_call_239 : decode cX41_call 239 = .ok (.invokevirtual 108, 3) := dk_182 0 108 (dk_at dksX41_call_8 7 rfl rfl)
theorem dX41_call_242 : decode cX41_call 242 = .ok (.i2l, 1) := dk_133 (dk_at dksX41_call_8 10 rfl rfl)
theorem dX41_call_243 : decode cX41_call 243 = .ok (.lreturn, 1) := dk_173 (dk_at dksX41_call_8 11 rfl rfl)
theorem dX41_call_244 : decode cX41_call 244 = .ok (.aload_n 0, 1) := dk_42 (dk_at dksX41_call_8 12 rfl rfl)
theorem dX41_call_245 : decode cX41_call 245 = .ok (.getfield 9, 3) := dk_180 0 9 (dk_at dksX41_call_8 13 rfl rfl)
theorem dX41_call_248 : decode cX41_call 248 = .ok (.iload_n 3, 1) := dk_29 (dk_at dksX41_call_8 16 rfl rfl)
theorem dX41_call_249 : decode cX41_call 249 = .ok (.invokevirtual 111, 3) := dk_182 0 111 (dk_at dksX41_call_8 17 rfl rfl)
theorem dX41_call_252 : decode cX41_call 252 = .ok (.i2l, 1) := dk_133 (dk_at dksX41_call_8 20 rfl rfl)
theorem dX41_call_253 : decode cX41_call 253 = .ok (.lreturn, 1) := dk_173 (dk_at dksX41_call_8 21 rfl rfl)
theorem dX41_call_254 : decode cX41_call 254 = .ok (.aload_n 0, 1) := dk_42 (dk_at dksX41_call_8 22 rfl rfl)
theorem dX41_call_255 : decode cX41_call 255 = .ok (.getfield 9, 3) := dk_180 0 9 (dk_at dksX41_call_9 0 rfl rfl)
theorem dX41_call_258 : decode cX41_call 258 = .ok (.iload_n 3, 1) := dk_29 (dk_at dksX41_call_9 3 rfl rfl)
theorem dX41_call_259 : decode cX41_call 259 = .ok (.iload 4, 2) := dk_21 4 (dk_at dksX41_call_9 4 rfl rfl)
theorem dX41_call_261 : decode cX41_call 261 = .ok (.aload_n 2, 1) := dk_44 (dk_at dksX41_call_9 6 rfl rfl)
theorem dX41_call_262 : decode cX41_call 262 = .ok (.iconst 2, 1) := dk_5 (dk_at dksX41_call_9 7 rfl rfl)
theorem dX41_call_263 : decode cX41_call 263 = .ok (.laload, 1) := dk_47 (dk_at dksX41_call_9 8 rfl rfl)
theorem dX41_call_264 : decode cX41_call 264 = .ok (.l2i, 1) := dk_136 (dk_at dksX41_call_9 9 rfl rfl)
theorem dX41_call_265 : decode cX41_call 265 = .ok (.invokevirtual 113, 3) := dk_182 0 113 (dk_at dksX41_call_9 10 rfl rfl)
theorem dX41_call_268 : decode cX41_call 268 = .ok (.i2l, 1) := dk_133 (dk_at dksX41_call_9 13 rfl rfl)
theorem dX41_call_269 : decode cX41_call 269 = .ok (.lreturn, 1) := dk_173 (dk_at dksX41_call_9 14 rfl rfl)
theorem dX41_call_270 : decode cX41_call 270 = .ok (.aload_n 0, 1) := dk_42 (dk_at dksX41_call_9 15 rfl rfl)
theorem dX41_call_271 : decode cX41_call 271 = .ok (.getfield 9, 3) := dk_180 0 9 (dk_at dksX41_call_9 16 rfl rfl)
theorem dX41_call_274 : decode cX41_call 274 = .ok (.iload_n 3, 1) := dk_29 (dk_at dksX41_call_9 19 rfl rfl)
theorem dX41_call_275 : decode cX41_call 275 = .ok (.invokevirtual 116, 3) := dk_182 0 116 (dk_at dksX41_call_9 20 rfl rfl)
theorem dX41_call_278 : decode cX41_call 278 = .ok (.lreturn, 1) := dk_173 (dk_at dksX41_call_9 23 rfl rfl)
theorem dX41_call_279 : decode cX41_call 279 = .ok (.aload_n 0, 1) := dk_42 (dk_at dksX41_call_10 0 rfl rfl)
theorem dX41_call_280 : decode cX41_call 280 = .ok (.getfield 9, 3) := dk_180 0 9 (dk_at dksX41_call_10 1 rfl rfl)
theorem dX41_call_283 : decode cX41_call 283 = .ok (.iload_n 3, 1) := dk_29 (dk_at dksX41_call_10 4 rfl rfl)
theorem dX41_call_284 : decode cX41_call 284 = .ok (.iload 4, 2) := dk_21 4 (dk_at dksX41_call_10 5 rfl rfl)
theorem dX41_call_286 : decode cX41_call 286 = .ok (.aload_n 2, 1) := dk_44 (dk_at dksX41_call_10 7 rfl rfl)
theorem dX41_call_287 : decode cX41_call 287 = .ok (.iconst 2, 1) := dk_5 (dk_at dksX41_call_10 8 rfl rfl)
theorem dX41_call_288 : decode cX41_call 288 = .ok (.laload, 1) := dk_47 (dk_at dksX41_call_10 9 rfl rfl)
theorem dX41_call_289 : decode cX41_call 289 = .ok (.l2i, 1) := dk_136 (dk_at dksX41_call_10 10 rfl rfl)
theorem dX41_call_290 : decode cX41_call 290 = .ok (.invokevirtual 119, 3) := dk_182 0 119 (dk_at dksX41_call_10 11 rfl rfl)
theorem dX41_call_293 : decode cX41_call 293 = .ok (.lreturn, 1) := dk_173 (dk_at dksX41_call_10 14 rfl rfl)
theorem dX41_call_294 : decode cX41_call 294 = .ok (.aload_n 0, 1) := dk_42 (dk_at dksX41_call_10 15 rfl rfl)
theorem dX41_call_295 : decode cX41_call 295 = .ok (.getfield 9, 3) := dk_180 0 9 (dk_at dksX41_call_10 16 rfl rfl)
theorem dX41_call_298 : decode cX41_call 298 = .ok (.iload_n 3, 1) := dk_29 (dk_at dksX41_call_10 19 rfl rfl)
theorem dX41_call_299 : decode cX41_call 299 = .ok (.iload 4, 2) := dk_21 4 (dk_at dksX41_call_10 20 rfl rfl)
theorem dX41_call_301 : decode cX41_call 301 = .ok (.invokevirtual 122, 3) := dk_182 0 122 (dk_at dksX41_call_11 0 rfl rfl)
theorem dX41_call_304 : decode cX41_call 304 = .ok (.i2l, 1) := dk_133 (dk_at dksX41_call_11 3 rfl rfl)
theorem dX41_call_305 : decode cX41_call 305 = .ok (.lreturn, 1) := dk_173 (dk_at dksX41_call_11 4 rfl rfl)
theorem dX41_call_306 : decode cX41_call 306 = .ok (.aload_n 0, 1) := dk_42 (dk_at dksX41_call_11 5 rfl rfl)
theorem dX41_call_307 : decode cX41_call 307 = .ok (.getfield 9, 3) := dk_180 0 9 (dk_at dksX41_call_11 6 rfl rfl)
theorem dX41_call_310 : decode cX41_call 310 = .ok (.iload_n 3, 1) := dk_29 (dk_at dksX41_call_11 9 rfl rfl)
theorem dX41_call_311 : decode cX41_call 311 = .ok (.invokevirtual 124, 3) := dk_182 0 124 (dk_at dksX41_call_11 10 rfl rfl)
theorem dX41_call_314 : decode cX41_call 314 = .ok (.i2l, 1) := dk_133 (dk_at dksX41_call_11 13 rfl rfl)
theorem dX41_call_315 : decode cX41_call 315 = .ok (.lreturn, 1) := dk_173 (dk_at dksX41_call_11 14 rfl rfl)
theorem q447 : (Jvm.Cond.initialized "WasteHouse$HazardRoom") ∈ lw_all := lw_g (lw_at lw_m1 55 rfl) rfl
theorem q1988 : (Jvm.Cond.selects "WasteHouse$HazardRoom" ({ cls := "java/lang/Object", name := "getClass", desc := "()Ljava/lang/Class;" } : Jvm.MethodName) ({ cls := "java/lang/Object", name := "getClass", desc := "()Ljava/lang/Class;" } : Jvm.MethodName)) ∈ lw_all := lw_g (lw_at lw_m7 156 rfl) rfl
theorem q2228 : (Jvm.Cond.instantiable "WasteHouse$HazardRoom" (4 : Nat)) ∈ lw_all := lw_g (lw_at lw_m8 156 rfl) rfl
theorem q2230 : (Jvm.Cond.instanceMethod ({ cls := "WasteHouse$HazardRoom", name := "<init>", desc := "(LWasteHouse$HazardRules;)V" } : Jvm.MethodName)) ∈ lw_all := lw_g (lw_at lw_m8 158 rfl) rfl
theorem q2231 : (Jvm.Cond.code ({ cls := "WasteHouse$HazardRoom", name := "<init>", desc := "(LWasteHouse$HazardRules;)V" } : Jvm.MethodName) prog_18_method_1_code (2 : Nat) (Option.none : Option Jvm.ClassFile.FieldType)) ∈ lw_all := lw_g (lw_at lw_m8 159 rfl) rfl
theorem q2232 : (Jvm.Cond.stringRef "WasteHouse$HazardRoom" (1 : Nat) "hazards") ∈ lw_tbl := lw_at lw_m8 160 rfl
theorem q2233 : (Jvm.Cond.methodLink "WasteHouse$HazardRoom" (3 : Nat) ({ cls := "WasteHouse$Room", name := "<init>", desc := "(Ljava/lang/String;)V" } : Jvm.MethodName)) ∈ lw_all := lw_g (lw_at lw_m8 161 rfl) rfl
theorem q2234 : (Jvm.Cond.stringRef "WasteHouse$HazardRoom" (15 : Nat) "read") ∈ lw_tbl := lw_at lw_m8 162 rfl
theorem q2235 : (Jvm.Cond.stringRef "WasteHouse$HazardRoom" (17 : Nat) "t") ∈ lw_tbl := lw_at lw_m8 163 rfl
theorem q2236 : (Jvm.Cond.methodLink "WasteHouse$HazardRoom" (19 : Nat) ({ cls := "WasteHouse$HazardRoom", name := "add", desc := "(Ljava/lang/String;Ljava/lang/String;)V" } : Jvm.MethodName)) ∈ lw_all := lw_g (lw_at lw_m8 164 rfl) rfl
theorem q2237 : (Jvm.Cond.sameMethod "WasteHouse$HazardRoom" "WasteHouse$Room" "add" "(Ljava/lang/String;Ljava/lang/String;)V") ∈ lw_all := lw_g (lw_at lw_m8 165 rfl) rfl
theorem q2238 : (Jvm.Cond.selects "WasteHouse$HazardRoom" ({ cls := "WasteHouse$HazardRoom", name := "add", desc := "(Ljava/lang/String;Ljava/lang/String;)V" } : Jvm.MethodName) ({ cls := "WasteHouse$Room", name := "add", desc := "(Ljava/lang/String;Ljava/lang/String;)V" } : Jvm.MethodName)) ∈ lw_all := lw_g (lw_at lw_m8 166 rfl) rfl
theorem q2239 : (Jvm.Cond.stringRef "WasteHouse$HazardRoom" (23 : Nat) "edition") ∈ lw_tbl := lw_at lw_m8 167 rfl
theorem q2240 : (Jvm.Cond.stringRef "WasteHouse$HazardRoom" (25 : Nat) "l") ∈ lw_tbl := lw_at lw_m8 168 rfl
theorem q2241 : (Jvm.Cond.stringRef "WasteHouse$HazardRoom" (27 : Nat) "part") ∈ lw_tbl := lw_at lw_m8 169 rfl
theorem q2242 : (Jvm.Cond.stringRef "WasteHouse$HazardRoom" (29 : Nat) "ill") ∈ lw_tbl := lw_at lw_m8 170 rfl
theorem q2243 : (Jvm.Cond.stringRef "WasteHouse$HazardRoom" (31 : Nat) "test") ∈ lw_tbl := lw_at lw_m8 171 rfl
theorem q2244 : (Jvm.Cond.stringRef "WasteHouse$HazardRoom" (33 : Nat) "ii") ∈ lw_tbl := lw_at lw_m8 172 rfl
theorem q2245 : (Jvm.Cond.stringRef "WasteHouse$HazardRoom" (35 : Nat) "clear") ∈ lw_tbl := lw_at lw_m8 173 rfl
theorem q2246 : (Jvm.Cond.stringRef "WasteHouse$HazardRoom" (37 : Nat) "") ∈ lw_tbl := lw_at lw_m8 174 rfl
theorem q2247 : (Jvm.Cond.stringRef "WasteHouse$HazardRoom" (39 : Nat) "way") ∈ lw_tbl := lw_at lw_m8 175 rfl
theorem q2248 : (Jvm.Cond.stringRef "WasteHouse$HazardRoom" (41 : Nat) "b") ∈ lw_tbl := lw_at lw_m8 176 rfl
theorem q2249 : (Jvm.Cond.stringRef "WasteHouse$HazardRoom" (43 : Nat) "run") ∈ lw_tbl := lw_at lw_m8 177 rfl
theorem q2250 : (Jvm.Cond.stringRef "WasteHouse$HazardRoom" (45 : Nat) "walk") ∈ lw_tbl := lw_at lw_m8 178 rfl
theorem q2251 : (Jvm.Cond.stringRef "WasteHouse$HazardRoom" (47 : Nat) "class") ∈ lw_tbl := lw_at lw_m8 179 rfl
theorem q2252 : (Jvm.Cond.stringRef "WasteHouse$HazardRoom" (49 : Nat) "i") ∈ lw_tbl := lw_at lw_m8 180 rfl
theorem q2253 : (Jvm.Cond.stringRef "WasteHouse$HazardRoom" (51 : Nat) "mark") ∈ lw_tbl := lw_at lw_m8 181 rfl
theorem q2254 : (Jvm.Cond.stringRef "WasteHouse$HazardRoom" (53 : Nat) "moving") ∈ lw_tbl := lw_at lw_m8 182 rfl
theorem q2255 : (Jvm.Cond.stringRef "WasteHouse$HazardRoom" (55 : Nat) "open") ∈ lw_tbl := lw_at lw_m8 183 rfl
theorem q2256 : (Jvm.Cond.stringRef "WasteHouse$HazardRoom" (57 : Nat) "missing") ∈ lw_tbl := lw_at lw_m8 184 rfl
theorem q2257 : (Jvm.Cond.stringRef "WasteHouse$HazardRoom" (59 : Nat) "explain") ∈ lw_tbl := lw_at lw_m8 185 rfl
theorem q2258 : (Jvm.Cond.stringRef "WasteHouse$HazardRoom" (61 : Nat) "iii") ∈ lw_tbl := lw_at lw_m8 186 rfl
theorem q2259 : (Jvm.Cond.stringRef "WasteHouse$HazardRoom" (63 : Nat) "limit") ∈ lw_tbl := lw_at lw_m8 187 rfl
theorem q2260 : (Jvm.Cond.stringRef "WasteHouse$HazardRoom" (65 : Nat) "sum") ∈ lw_tbl := lw_at lw_m8 188 rfl
theorem q2261 : (Jvm.Cond.stringRef "WasteHouse$HazardRoom" (67 : Nat) "table") ∈ lw_tbl := lw_at lw_m8 189 rfl
theorem q2262 : (Jvm.Cond.stringRef "WasteHouse$HazardRoom" (69 : Nat) "write") ∈ lw_tbl := lw_at lw_m8 190 rfl
theorem q2263 : (Jvm.Cond.fieldLink "WasteHouse$HazardRoom" (9 : Nat) "WasteHouse$HazardRoom" "rules" "LWasteHouse$HazardRules;") ∈ lw_all := lw_g (lw_at lw_m8 191 rfl) rfl
theorem q2264 : (Jvm.Cond.laysFinal "WasteHouse$HazardRoom" "WasteHouse$HazardRoom" "rules" "LWasteHouse$HazardRules;") ∈ lw_all := lw_g (lw_at lw_m8 192 rfl) rfl
theorem q2265 : (Jvm.Cond.soleField "WasteHouse$HazardRoom" "rules") ∈ lw_all := lw_g (lw_at lw_m8 193 rfl) rfl
theorem q2266 : (Jvm.Cond.laysFinal "WasteHouse$HazardRoom" "WasteHouse$Room" "name" "Ljava/lang/String;") ∈ lw_all := lw_g (lw_at lw_m8 194 rfl) rfl
theorem q2267 : (Jvm.Cond.laysFinal "WasteHouse$HazardRoom" "WasteHouse$Room" "words" "Ljava/util/ArrayList;") ∈ lw_all := lw_g (lw_at lw_m8 195 rfl) rfl
theorem q2268 : (Jvm.Cond.laysFinal "WasteHouse$HazardRoom" "WasteHouse$Room" "needs" "Ljava/util/ArrayList;") ∈ lw_all := lw_g (lw_at lw_m8 196 rfl) rfl
theorem q2269 : (Jvm.Cond.superclass "WasteHouse$HazardRoom" "WasteHouse$Room") ∈ lw_all := lw_g (lw_at lw_m8 197 rfl) rfl
theorem q3059 : (Jvm.Cond.selects "WasteHouse$HazardRoom" ({ cls := "WasteHouse$Room", name := "find", desc := "(Ljava/lang/String;)I" } : Jvm.MethodName) ({ cls := "WasteHouse$Room", name := "find", desc := "(Ljava/lang/String;)I" } : Jvm.MethodName)) ∈ lw_all := lw_g (lw_at lw_m12 27 rfl) rfl
theorem q3096 : (Jvm.Cond.selects "WasteHouse$HazardRoom" ({ cls := "java/lang/Object", name := "equals", desc := "(Ljava/lang/Object;)Z" } : Jvm.MethodName) ({ cls := "java/lang/Object", name := "equals", desc := "(Ljava/lang/Object;)Z" } : Jvm.MethodName)) ∈ lw_all := lw_g (lw_at lw_m12 64 rfl) rfl
theorem q3173 : (Jvm.Cond.selects "WasteHouse$HazardRoom" ({ cls := "WasteHouse$Room", name := "need", desc := "(I)Ljava/lang/String;" } : Jvm.MethodName) ({ cls := "WasteHouse$Room", name := "need", desc := "(I)Ljava/lang/String;" } : Jvm.MethodName)) ∈ lw_all := lw_g (lw_at lw_m12 141 rfl) rfl
theorem q3611 : (Jvm.Cond.selects "WasteHouse$HazardRoom" ({ cls := "java/lang/Object", name := "hashCode", desc := "()I" } : Jvm.MethodName) ({ cls := "java/lang/Object", name := "hashCode", desc := "()I" } : Jvm.MethodName)) ∈ lw_all := lw_g (lw_at lw_m14 99 rfl) rfl
theorem q4771 : (Jvm.Cond.selects "WasteHouse$HazardRoom" ({ cls := "WasteHouse$Room", name := "call", desc := "(I[J)J" } : Jvm.MethodName) ({ cls := "WasteHouse$HazardRoom", name := "call", desc := "(I[J)J" } : Jvm.MethodName)) ∈ lw_all := lw_g (lw_at lw_m19 59 rfl) rfl
theorem q4772 : (Jvm.Cond.instanceMethod ({ cls := "WasteHouse$HazardRoom", name := "call", desc := "(I[J)J" } : Jvm.MethodName)) ∈ lw_all := lw_g (lw_at lw_m19 60 rfl) rfl
theorem q4773 : (Jvm.Cond.code ({ cls := "WasteHouse$HazardRoom", name := "call", desc := "(I[J)J" } : Jvm.MethodName) prog_18_method_2_code (5 : Nat) (Option.some Jvm.ClassFile.FieldType.long)) ∈ lw_all := lw_g (lw_at lw_m19 61 rfl) rfl
theorem q4774 : (Jvm.Cond.methodLink "WasteHouse$HazardRoom" (71 : Nat) ({ cls := "WasteHouse$HazardRules", name := "read", desc := "()I" } : Jvm.MethodName)) ∈ lw_all := lw_g (lw_at lw_m19 62 rfl) rfl
theorem q4886 : (Jvm.Cond.methodLink "WasteHouse$HazardRoom" (76 : Nat) ({ cls := "WasteHouse$HazardRules", name := "edition", desc := "(J)I" } : Jvm.MethodName)) ∈ lw_all := lw_g (lw_at lw_m19 174 rfl) rfl
theorem q4890 : (Jvm.Cond.methodLink "WasteHouse$HazardRoom" (79 : Nat) ({ cls := "WasteHouse$HazardRules", name := "part", desc := "(IJJ)Z" } : Jvm.MethodName)) ∈ lw_all := lw_g (lw_at lw_m19 178 rfl) rfl
theorem q4895 : (Jvm.Cond.methodLink "WasteHouse$HazardRoom" (82 : Nat) ({ cls := "WasteHouse$HazardRoom", name := "bit", desc := "(Z)J" } : Jvm.MethodName)) ∈ lw_all := lw_g (lw_at lw_m19 183 rfl) rfl
theorem q4896 : (Jvm.Cond.sameMethod "WasteHouse$HazardRoom" "WasteHouse$Room" "bit" "(Z)J") ∈ lw_all := lw_g (lw_at lw_m19 184 rfl) rfl
theorem q4897 : (Jvm.Cond.methodLink "WasteHouse$HazardRoom" (86 : Nat) ({ cls := "WasteHouse$HazardRules", name := "test", desc := "(II)Z" } : Jvm.MethodName)) ∈ lw_all := lw_g (lw_at lw_m19 185 rfl) rfl
theorem q4901 : (Jvm.Cond.methodLink "WasteHouse$HazardRoom" (89 : Nat) ({ cls := "WasteHouse$HazardRules", name := "clearParts", desc := "()V" } : Jvm.MethodName)) ∈ lw_all := lw_g (lw_at lw_m19 189 rfl) rfl
theorem q4902 : (Jvm.Cond.methodLink "WasteHouse$HazardRoom" (93 : Nat) ({ cls := "WasteHouse$HazardRules", name := "way", desc := "(Z)Z" } : Jvm.MethodName)) ∈ lw_all := lw_g (lw_at lw_m19 190 rfl) rfl
theorem q4906 : (Jvm.Cond.methodLink "WasteHouse$HazardRoom" (96 : Nat) ({ cls := "WasteHouse$HazardRules", name := "run", desc := "(J)I" } : Jvm.MethodName)) ∈ lw_all := lw_g (lw_at lw_m19 194 rfl) rfl
theorem q4967 : (Jvm.Cond.methodLink "WasteHouse$HazardRoom" (98 : Nat) ({ cls := "WasteHouse$HazardRules", name := "walk", desc := "(J)I" } : Jvm.MethodName)) ∈ lw_all := lw_g (lw_at lw_m20 15 rfl) rfl
theorem q4993 : (Jvm.Cond.methodLink "WasteHouse$HazardRoom" (100 : Nat) ({ cls := "WasteHouse$HazardRules", name := "cls", desc := "(I)I" } : Jvm.MethodName)) ∈ lw_all := lw_g (lw_at lw_m20 41 rfl) rfl
theorem q5001 : (Jvm.Cond.methodLink "WasteHouse$HazardRoom" (104 : Nat) ({ cls := "WasteHouse$HazardRules", name := "mark", desc := "(I)I" } : Jvm.MethodName)) ∈ lw_all := lw_g (lw_at lw_m20 49 rfl) rfl
theorem q5005 : (Jvm.Cond.methodLink "WasteHouse$HazardRoom" (106 : Nat) ({ cls := "WasteHouse$HazardRules", name := "moving", desc := "()I" } : Jvm.MethodName)) ∈ lw_all := lw_g (lw_at lw_m20 53 rfl) rfl
theorem q5009 : (Jvm.Cond.methodLink "WasteHouse$HazardRoom" (108 : Nat) ({ cls := "WasteHouse$HazardRules", name := "open", desc := "(II)I" } : Jvm.MethodName)) ∈ lw_all := lw_g (lw_at lw_m20 57 rfl) rfl
theorem q5013 : (Jvm.Cond.methodLink "WasteHouse$HazardRoom" (111 : Nat) ({ cls := "WasteHouse$HazardRules", name := "missing", desc := "(I)I" } : Jvm.MethodName)) ∈ lw_all := lw_g (lw_at lw_m20 61 rfl) rfl
theorem q5021 : (Jvm.Cond.methodLink "WasteHouse$HazardRoom" (113 : Nat) ({ cls := "WasteHouse$HazardRules", name := "explain", desc := "(III)I" } : Jvm.MethodName)) ∈ lw_all := lw_g (lw_at lw_m20 69 rfl) rfl
theorem q5025 : (Jvm.Cond.methodLink "WasteHouse$HazardRoom" (116 : Nat) ({ cls := "WasteHouse$HazardRules", name := "limit", desc := "(I)J" } : Jvm.MethodName)) ∈ lw_all := lw_g (lw_at lw_m20 73 rfl) rfl
theorem q5030 : (Jvm.Cond.methodLink "WasteHouse$HazardRoom" (119 : Nat) ({ cls := "WasteHouse$HazardRules", name := "sum", desc := "(III)J" } : Jvm.MethodName)) ∈ lw_all := lw_g (lw_at lw_m20 78 rfl) rfl
theorem q5038 : (Jvm.Cond.methodLink "WasteHouse$HazardRoom" (122 : Nat) ({ cls := "WasteHouse$HazardRules", name := "table", desc := "(II)I" } : Jvm.MethodName)) ∈ lw_all := lw_g (lw_at lw_m20 86 rfl) rfl
theorem q5045 : (Jvm.Cond.methodLink "WasteHouse$HazardRoom" (124 : Nat) ({ cls := "WasteHouse$HazardRules", name := "write", desc := "(I)I" } : Jvm.MethodName)) ∈ lw_all := lw_g (lw_at lw_m20 93 rfl) rfl
theorem q9610 : (Jvm.Cond.castable "WasteHouse$HazardRoom" "WasteHouse$Room") ∈ lw_tbl := lw_at lw_m39 98 rfl
theorem q9664 : (Jvm.Cond.castable "WasteHouse$HazardRoom" "java/lang/Object") ∈ lw_tbl := lw_at lw_m39 152 rfl
theorem in_X41 : ∀ w ∈ wsX410, w ∈ lw_all := lw_in wsX410 [2266, 2267, 2268, 2264] (by decide +kernel) (by decide +kernel)
