/-! WasteHouse$ApartRoom -/
set_option maxRecDepth 100000
def RX45 : String := "WasteHouse$ApartRoom"
def TX45 : u_T := fun k => match k with
  | 0 => ("WasteHouse$Room", "name", "Ljava/lang/String;", true)
  | 1 => ("WasteHouse$Room", "words", "Ljava/util/ArrayList;", true)
  | 2 => ("WasteHouse$Room", "needs", "Ljava/util/ArrayList;", true)
  | _ => ("WasteHouse$ApartRoom", "apart", "LWasteHouse$ApartCost;", true)
def tyX45 : Nat → FieldType := fun k => match k with
  | 0 => .object "java/lang/String"
  | 1 => .object "java/util/ArrayList"
  | 2 => .object "java/util/ArrayList"
  | _ => .object "WasteHouse$ApartCost"
abbrev wsX450 : List Cond := u_ws RX45 TX45 4
theorem nmX45 : ∀ a, a < 4 → ∀ b, b < 4 → a ≠ b → (TX45 a).2.1 ≠ (TX45 b).2.1 := by decide +kernel
theorem tyX45_ok : ∀ k, k < 4 → parseFieldDescriptor (TX45 k).2.2.1 = some (tyX45 k) := by decide +kernel
abbrev cX45_init : ByteArray := prog_5_method_1_code
def yX45_init : MethodName := ⟨RX45, "<init>", "(LWasteHouse$ApartCost;)V"⟩
def dkwX45_init_6 : List UInt8 := [182, 0, 18, 42, 18, 70, 18, 42, 182, 0, 18, 42, 18, 72, 18, 42, 182, 0, 18, 177]
abbrev dktX45_init_6 : List UInt8 := dkwX45_init_6 ++ []
def dkwX45_init_5 : List UInt8 := [182, 0, 18, 42, 18, 64, 18, 50, 182, 0, 18, 42, 18, 66, 18, 50, 182, 0, 18, 42, 18, 68, 18, 34]
abbrev dktX45_init_5 : List UInt8 := dkwX45_init_5 ++ dktX45_init_6
def dkwX45_init_4 : List UInt8 := [182, 0, 18, 42, 18, 58, 18, 42, 182, 0, 18, 42, 18, 60, 18, 42, 182, 0, 18, 42, 18, 62, 18, 42]
abbrev dktX45_init_4 : List UInt8 := dkwX45_init_4 ++ dktX45_init_5
def dkwX45_init_3 : List UInt8 := [182, 0, 18, 42, 18, 48, 18, 50, 182, 0, 18, 42, 18, 52, 18, 54, 182, 0, 18, 42, 18, 56, 18, 42]
abbrev dktX45_init_3 : List UInt8 := dkwX45_init_3 ++ dktX45_init_4
def dkwX45_init_2 : List UInt8 := [182, 0, 18, 42, 18, 36, 18, 38, 182, 0, 18, 42, 18, 40, 18, 42, 182, 0, 18, 42, 18, 44, 18, 46]
abbrev dktX45_init_2 : List UInt8 := dkwX45_init_2 ++ dktX45_init_3
def dkwX45_init_1 : List UInt8 := [182, 0, 18, 42, 18, 26, 18, 28, 182, 0, 18, 42, 18, 30, 18, 28, 182, 0, 18, 42, 18, 32, 18, 34]
abbrev dktX45_init_1 : List UInt8 := dkwX45_init_1 ++ dktX45_init_2
def dkwX45_init_0 : List UInt8 := [42, 18, 1, 183, 0, 3, 42, 43, 181, 0, 9, 42, 18, 14, 18, 16, 182, 0, 18, 42, 18, 22, 18, 24]
abbrev dktX45_init_0 : List UInt8 := dkwX45_init_0 ++ dktX45_init_1
theorem dksX45_init_0 : cX45_init.data.toList.drop 0 = dktX45_init_0 := by decide +kernel
theorem dksX45_init_1 : cX45_init.data.toList.drop 24 = dktX45_init_1 := dk_seg dksX45_init_0 24 rfl rfl
theorem dksX45_init_2 : cX45_init.data.toList.drop 48 = dktX45_init_2 := dk_seg dksX45_init_1 24 rfl rfl
theorem dksX45_init_3 : cX45_init.data.toList.drop 72 = dktX45_init_3 := dk_seg dksX45_init_2 24 rfl rfl
theorem dksX45_init_4 : cX45_init.data.toList.drop 96 = dktX45_init_4 := dk_seg dksX45_init_3 24 rfl rfl
theorem dksX45_init_5 : cX45_init.data.toList.drop 120 = dktX45_init_5 := dk_seg dksX45_init_4 24 rfl rfl
theorem dksX45_init_6 : cX45_init.data.toList.drop 144 = dktX45_init_6 := dk_seg dksX45_init_5 24 rfl rfl
theorem dX45_init_0 : decode cX45_init 0 = .ok (.aload_n 0, 1) := dk_42 (dk_at dksX45_init_0 0 rfl rfl)
theorem dX45_init_1 : decode cX45_init 1 = .ok (.ldc 1, 2) := dk_18 1 (dk_at dksX45_init_0 1 rfl rfl)
theorem dX45_init_3 : decode cX45_init 3 = .ok (.invokespecial 3, 3) := dk_183 0 3 (dk_at dksX45_init_0 3 rfl rfl)
theorem dX45_init_6 : decode cX45_init 6 = .ok (.aload_n 0, 1) := dk_42 (dk_at dksX45_init_0 6 rfl rfl)
theorem dX45_init_7 : decode cX45_init 7 = .ok (.aload_n 1, 1) := dk_43 (dk_at dksX45_init_0 7 rfl rfl)
theorem dX45_init_8 : decode cX45_init 8 = .ok (.putfield 9, 3) := dk_181 0 9 (dk_at dksX45_init_0 8 rfl rfl)
theorem dX45_init_11 : decode cX45_init 11 = .ok (.aload_n 0, 1) := dk_42 (dk_at dksX45_init_0 11 rfl rfl)
theorem dX45_init_12 : decode cX45_init 12 = .ok (.ldc 14, 2) := dk_18 14 (dk_at dksX45_init_0 12 rfl rfl)
theorem dX45_init_14 : decode cX45_init 14 = .ok (.ldc 16, 2) := dk_18 16 (dk_at dksX45_init_0 14 rfl rfl)
theorem dX45_init_16 : decode cX45_init 16 = .ok (.invokevirtual 18, 3) := dk_182 0 18 (dk_at dksX45_init_0 16 rfl rfl)
theorem dX45_init_19 : decode cX45_init 19 = .ok (.aload_n 0, 1) := dk_42 (dk_at dksX45_init_0 19 rfl rfl)
theorem dX45_init_20 : decode cX45_init 20 = .ok (.ldc 22, 2) := dk_18 22 (dk_at dksX45_init_0 20 rfl rfl)
theorem dX45_init_22 : decode cX45_init 22 = .ok (.ldc 24, 2) := dk_18 24 (dk_at dksX45_init_0 22 rfl rfl)
theorem dX45_init_24 : decode cX45_init 24 = .ok (.invokevirtual 18, 3) := dk_182 0 18 (dk_at dksX45_init_1 0 rfl rfl)
theorem dX45_init_27 : decode cX45_init 27 = .ok (.aload_n 0, 1) := dk_42 (dk_at dksX45_init_1 3 rfl rfl)
theorem dX45_init_28 : decode cX45_init 28 = .ok (.ldc 26, 2) := dk_18 26 (dk_at dksX45_init_1 4 rfl rfl)
theorem dX45_init_30 : decode cX45_init 30 = .ok (.ldc 28, 2) := dk_18 28 (dk_at dksX45_init_1 6 rfl rfl)
theorem dX45_init_32 : decode cX45_init 32 = .ok (.invokevirtual 18, 3) := dk_182 0 18 (dk_at dksX45_init_1 8 rfl rfl)
theorem dX45_init_35 : decode cX45_init 35 = .ok (.aload_n 0, 1) := dk_42 (dk_at dksX45_init_1 11 rfl rfl)
theorem dX45_init_36 : decode cX45_init 36 = .ok (.ldc 30, 2) := dk_18 30 (dk_at dksX45_init_1 12 rfl rfl)
theorem dX45_init_38 : decode cX45_init 38 = .ok (.ldc 28, 2) := dk_18 28 (dk_at dksX45_init_1 14 rfl rfl)
theorem dX45_init_40 : decode cX45_init 40 = .ok (.invokevirtual 18, 3) := dk_182 0 18 (dk_at dksX45_init_1 16 rfl rfl)
theorem dX45_init_43 : decode cX45_init 43 = .ok (.aload_n 0, 1) := dk_42 (dk_at dksX45_init_1 19 rfl rfl)
theorem dX45_init_44 : decode cX45_init 44 = .ok (.ldc 32, 2) := dk_18 32 (dk_at dksX45_init_1 20 rfl rfl)
theorem dX45_init_46 : decode cX45_init 46 = .ok (.ldc 34, 2) := dk_18 34 (dk_at dksX45_init_1 22 rfl rfl)
theorem dX45_init_48 : decode cX45_init 48 = .ok (.invokevirtual 18, 3) := dk_182 0 18 (dk_at dksX45_init_2 0 rfl rfl)
theorem dX45_init_51 : decode cX45_init 51 = .ok (.aload_n 0, 1) := dk_42 (dk_at dksX45_init_2 3 rfl rfl)
theorem dX45_init_52 : decode cX45_init 52 = .ok (.ldc 36, 2) := dk_18 36 (dk_at dksX45_init_2 4 rfl rfl)
theorem dX45_init_54 : decode cX45_init 54 = .ok (.ldc 38, 2) := dk_18 38 (dk_at dksX45_init_2 6 rfl rfl)
theorem dX45_init_56 : decode cX45_init 56 = .ok (.invokevirtual 18, 3) := dk_182 0 18 (dk_at dksX45_init_2 8 rfl rfl)
theorem dX45_init_59 : decode cX45_init 59 = .ok (.aload_n 0, 1) := dk_42 (dk_at dksX45_init_2 11 rfl rfl)
theorem dX45_init_60 : decode cX45_init 60 = .ok (.ldc 40, 2) := dk_18 40 (dk_at dksX45_init_2 12 rfl rfl)
theorem dX45_init_62 : decode cX45_init 62 = .ok (.ldc 42, 2) := dk_18 42 (dk_at dksX45_init_2 14 rfl rfl)
theorem dX45_init_64 : decode cX45_init 64 = .ok (.invokevirtual 18, 3) := dk_182 0 18 (dk_at dksX45_init_2 16 rfl rfl)
theorem dX45_init_67 : decode cX45_init 67 = .ok (.aload_n 0, 1) := dk_42 (dk_at dksX45_init_2 19 rfl rfl)
theorem dX45_init_68 : decode cX45_init 68 = .ok (.ldc 44, 2) := dk_18 44 (dk_at dksX45_init_2 20 rfl rfl)
theorem dX45_init_70 : decode cX45_init 70 = .ok (.ldc 46, 2) := dk_18 46 (dk_at dksX45_init_2 22 rfl rfl)
theorem dX45_init_72 : decode cX45_init 72 = .ok (.invokevirtual 18, 3) := dk_182 0 18 (dk_at dksX45_init_3 0 rfl rfl)
theorem dX45_init_75 : decode cX45_init 75 = .ok (.aload_n 0, 1) := dk_42 (dk_at dksX45_init_3 3 rfl rfl)
theorem dX45_init_76 : decode cX45_init 76 = .ok (.ldc 48, 2) := dk_18 48 (dk_at dksX45_init_3 4 rfl rfl)
theorem dX45_init_78 : decode cX45_init 78 = .ok (.ldc 50, 2) := dk_18 50 (dk_at dksX45_init_3 6 rfl rfl)
theorem dX45_init_80 : decode cX45_init 80 = .ok (.invokevirtual 18, 3) := dk_182 0 18 (dk_at dksX45_init_3 8 rfl rfl)
theorem dX45_init_83 : decode cX45_init 83 = .ok (.aload_n 0, 1) := dk_42 (dk_at dksX45_init_3 11 rfl rfl)
theorem dX45_init_84 : decode cX45_init 84 = .ok (.ldc 52, 2) := dk_18 52 (dk_at dksX45_init_3 12 rfl rfl)
theorem dX45_init_86 : decode cX45_init 86 = .ok (.ldc 54, 2) := dk_18 54 (dk_at dksX45_init_3 14 rfl rfl)
theorem dX45_init_88 : decode cX45_init 88 = .ok (.invokevirtual 18, 3) := dk_182 0 18 (dk_at dksX45_init_3 16 rfl rfl)
theorem dX45_init_91 : decode cX45_init 91 = .ok (.aload_n 0, 1) := dk_42 (dk_at dksX45_init_3 19 rfl rfl)
theorem dX45_init_92 : decode cX45_init 92 = .ok (.ldc 56, 2) := dk_18 56 (dk_at dksX45_init_3 20 rfl rfl)
theorem dX45_init_94 : decode cX45_init 94 = .ok (.ldc 42, 2) := dk_18 42 (dk_at dksX45_init_3 22 rfl rfl)
theorem dX45_init_96 : decode cX45_init 96 = .ok (.invokevirtual 18, 3) := dk_182 0 18 (dk_at dksX45_init_4 0 rfl rfl)
theorem dX45_init_99 : decode cX45_init 99 = .ok (.aload_n 0, 1) := dk_42 (dk_at dksX45_init_4 3 rfl rfl)
theorem dX45_init_100 : decode cX45_init 100 = .ok (.ldc 58, 2) := dk_18 58 (dk_at dksX45_init_4 4 rfl rfl)
theorem dX45_init_102 : decode cX45_init 102 = .ok (.ldc 42, 2) := dk_18 42 (dk_at dksX45_init_4 6 rfl rfl)
theorem dX45_init_104 : decode cX45_init 104 = .ok (.invokevirtual 18, 3) := dk_182 0 18 (dk_at dksX45_init_4 8 rfl rfl)
theorem dX45_init_107 : decode cX45_init 107 = .ok (.aload_n 0, 1) := dk_42 (dk_at dksX45_init_4 11 rfl rfl)
theorem dX45_init_108 : decode cX45_init 108 = .ok (.ldc 60, 2) := dk_18 60 (dk_at dksX45_init_4 12 rfl rfl)
theorem dX45_init_110 : decode cX45_init 110 = .ok (.ldc 42, 2) := dk_18 42 (dk_at dksX45_init_4 14 rfl rfl)
theorem dX45_init_112 : decode cX45_init 112 = .ok (.invokevirtual 18, 3) := dk_182 0 18 (dk_at dksX45_init_4 16 rfl rfl)
theorem dX45_init_115 : decode cX45_init 115 = .ok (.aload_n 0, 1) := dk_42 (dk_at dksX45_init_4 19 rfl rfl)
theorem dX45_init_116 : decode cX45_init 116 = .ok (.ldc 62, 2) := dk_18 62 (dk_at dksX45_init_4 20 rfl rfl)
theorem dX45_init_118 : decode cX45_init 118 = .ok (.ldc 42, 2) := dk_18 42 (dk_at dksX45_init_4 22 rfl rfl)
theorem dX45_init_120 : decode cX45_init 120 = .ok (.invokevirtual 18, 3) := dk_182 0 18 (dk_at dksX45_init_5 0 rfl rfl)
theorem dX45_init_123 : decode cX45_init 123 = .ok (.aload_n 0, 1) := dk_42 (dk_at dksX45_init_5 3 rfl rfl)
theorem dX45_init_124 : decode cX45_init 124 = .ok (.ldc 64, 2) := dk_18 64 (dk_at dksX45_init_5 4 rfl rfl)
theorem dX45_init_126 : decode cX45_init 126 = .ok (.ldc 50, 2) := dk_18 50 (dk_at dksX45_init_5 6 rfl rfl)
theorem dX45_init_128 : decode cX45_init 128 = .ok (.invokevirtual 18, 3) := dk_182 0 18 (dk_at dksX45_init_5 8 rfl rfl)
theorem dX45_init_131 : decode cX45_init 131 = .ok (.aload_n 0, 1) := dk_42 (dk_at dksX45_init_5 11 rfl rfl)
theorem dX45_init_132 : decode cX45_init 132 = .ok (.ldc 66, 2) := dk_18 66 (dk_at dksX45_init_5 12 rfl rfl)
theorem dX45_init_134 : decode cX45_init 134 = .ok (.ldc 50, 2) := dk_18 50 (dk_at dksX45_init_5 14 rfl rfl)
theorem dX45_init_136 : decode cX45_init 136 = .ok (.invokevirtual 18, 3) := dk_182 0 18 (dk_at dksX45_init_5 16 rfl rfl)
theorem dX45_init_139 : decode cX45_init 139 = .ok (.aload_n 0, 1) := dk_42 (dk_at dksX45_init_5 19 rfl rfl)
theorem dX45_init_140 : decode cX45_init 140 = .ok (.ldc 68, 2) := dk_18 68 (dk_at dksX45_init_5 20 rfl rfl)
theorem dX45_init_142 : decode cX45_init 142 = .ok (.ldc 34, 2) := dk_18 34 (dk_at dksX45_init_5 22 rfl rfl)
theorem dX45_init_144 : decode cX45_init 144 = .ok (.invokevirtual 18, 3) := dk_182 0 18 (dk_at dksX45_init_6 0 rfl rfl)
theorem dX45_init_147 : decode cX45_init 147 = .ok (.aload_n 0, 1) := dk_42 (dk_at dksX45_init_6 3 rfl rfl)
theorem dX45_init_148 : decode cX45_init 148 = .ok (.ldc 70, 2) := dk_18 70 (dk_at dksX45_init_6 4 rfl rfl)
theorem dX45_init_150 : decode cX45_init 150 = .ok (.ldc 42, 2) := dk_18 42 (dk_at dksX45_init_6 6 rfl rfl)
theorem dX45_init_152 : decode cX45_init 152 = .ok (.invokevirtual 18, 3) := dk_182 0 18 (dk_at dksX45_init_6 8 rfl rfl)
theorem dX45_init_155 : decode cX45_init 155 = .ok (.aload_n 0, 1) := dk_42 (dk_at dksX45_init_6 11 rfl rfl)
theorem dX45_init_156 : decode cX45_init 156 = .ok (.ldc 72, 2) := dk_18 72 (dk_at dksX45_init_6 12 rfl rfl)
theorem dX45_init_158 : decode cX45_init 158 = .ok (.ldc 42, 2) := dk_18 42 (dk_at dksX45_init_6 14 rfl rfl)
theorem dX45_init_160 : decode cX45_init 160 = .ok (.invokevirtual 18, 3) := dk_182 0 18 (dk_at dksX45_init_6 16 rfl rfl)
theorem dX45_init_163 : decode cX45_init 163 = .ok (.return_, 1) := dk_177 (dk_at dksX45_init_6 19 rfl rfl)
abbrev cX45_call : ByteArray := prog_5_method_2_code
def yX45_call : MethodName := ⟨RX45, "call", "(I[J)J"⟩
def dkwX45_call_12 : List UInt8 := [180, 0, 9, 29, 182, 0, 129, 133, 173]
abbrev dktX45_call_12 : List UInt8 := dkwX45_call_12 ++ []
def dkwX45_call_11 : List UInt8 := [180, 0, 9, 29, 44, 4, 47, 182, 0, 124, 133, 173, 42, 180, 0, 9, 29, 182, 0, 127, 133, 173, 42]
abbrev dktX45_call_11 : List UInt8 := dkwX45_call_11 ++ dktX45_call_12
def dkwX45_call_10 : List UInt8 := [182, 0, 116, 173, 42, 180, 0, 9, 182, 0, 119, 184, 0, 82, 173, 42, 180, 0, 9, 182, 0, 122, 173, 42]
abbrev dktX45_call_10 : List UInt8 := dkwX45_call_10 ++ dktX45_call_11
def dkwX45_call_9 : List UInt8 := [180, 0, 9, 29, 182, 0, 112, 133, 173, 42, 180, 0, 9, 29, 182, 0, 114, 133, 173, 42, 180, 0, 9, 29]
abbrev dktX45_call_9 : List UInt8 := dkwX45_call_9 ++ dktX45_call_10
def dkwX45_call_8 : List UInt8 := [180, 0, 9, 44, 3, 47, 182, 0, 106, 133, 173, 42, 180, 0, 9, 29, 182, 0, 109, 133, 173, 42]
abbrev dktX45_call_8 : List UInt8 := dkwX45_call_8 ++ dktX45_call_9
def dkwX45_call_7 : List UInt8 := [44, 4, 47, 44, 5, 47, 182, 0, 100, 184, 0, 82, 173, 42, 180, 0, 9, 182, 0, 103, 173, 42]
abbrev dktX45_call_7 : List UInt8 := dkwX45_call_7 ++ dktX45_call_8
def dkwX45_call_6 : List UInt8 := [182, 0, 94, 184, 0, 82, 173, 42, 180, 0, 9, 29, 182, 0, 97, 184, 0, 82, 173, 42, 180, 0, 9, 29]
abbrev dktX45_call_6 : List UInt8 := dkwX45_call_6 ++ dktX45_call_7
def dkwX45_call_5 : List UInt8 := [180, 0, 9, 29, 44, 4, 47, 182, 0, 91, 184, 0, 82, 173, 42, 180, 0, 9, 44, 3, 47, 44, 4, 47]
abbrev dktX45_call_5 : List UInt8 := dkwX45_call_5 ++ dktX45_call_6
def dkwX45_call_4 : List UInt8 := [184, 0, 82, 173, 42, 180, 0, 9, 29, 21, 4, 44, 5, 47, 182, 0, 89, 184, 0, 82, 173, 42]
abbrev dktX45_call_4 : List UInt8 := dkwX45_call_4 ++ dktX45_call_5
def dkwX45_call_3 : List UInt8 := [21, 4, 182, 0, 79, 184, 0, 82, 173, 42, 180, 0, 9, 29, 21, 4, 44, 5, 47, 182, 0, 86]
abbrev dktX45_call_3 : List UInt8 := dkwX45_call_3 ++ dktX45_call_4
def dkwX45_call_2 : List UInt8 := [42, 180, 0, 9, 29, 21, 4, 44, 5, 47, 136, 44, 6, 47, 182, 0, 74, 133, 173, 42, 180, 0, 9, 29]
abbrev dktX45_call_2 : List UInt8 := dkwX45_call_2 ++ dktX45_call_3
def dkwX45_call_1 : List UInt8 := [170, 0, 0, 0, 0, 0, 1, 62, 0, 0, 0, 0, 0, 0, 0, 17, 0, 0, 0, 88, 0, 0, 0, 107, 0, 0, 0, 121, 0, 0, 0, 138, 0, 0, 0, 155, 0, 0, 0, 170, 0, 0, 0, 187, 0, 0, 0, 199, 0, 0, 0, 217, 0, 0, 0, 225, 0, 0, 0, 237, 0, 0, 0, 247, 0, 0, 1, 1, 0, 0, 1, 11, 0, 0, 1, 20, 0, 0, 1, 31, 0, 0, 1, 39, 0, 0, 1, 52]
abbrev dktX45_call_1 : List UInt8 := dkwX45_call_1 ++ dktX45_call_2
def dkwX45_call_0 : List UInt8 := [44, 3, 47, 136, 62, 44, 4, 47, 136, 54, 4, 27]
abbrev dktX45_call_0 : List UInt8 := dkwX45_call_0 ++ dktX45_call_1
theorem dksX45_call_0 : cX45_call.data.toList.drop 0 = dktX45_call_0 := by decide +kernel
theorem dksX45_call_1 : cX45_call.data.toList.drop 12 = dktX45_call_1 := dk_seg dksX45_call_0 12 rfl rfl
theorem dksX45_call_2 : cX45_call.data.toList.drop 100 = dktX45_call_2 := dk_seg dksX45_call_1 88 rfl rfl
theorem dksX45_call_3 : cX45_call.data.toList.drop 124 = dktX45_call_3 := dk_seg dksX45_call_2 24 rfl rfl
theorem dksX45_call_4 : cX45_call.data.toList.drop 146 = dktX45_call_4 := dk_seg dksX45_call_3 22 rfl rfl
theorem dksX45_call_5 : cX45_call.data.toList.drop 168 = dktX45_call_5 := dk_seg dksX45_call_4 22 rfl rfl
theorem dksX45_call_6 : cX45_call.data.toList.drop 192 = dktX45_call_6 := dk_seg dksX45_call_5 24 rfl rfl
theorem dksX45_call_7 : cX45_call.data.toList.drop 216 = dktX45_call_7 := dk_seg dksX45_call_6 24 rfl rfl
theorem dksX45_call_8 : cX45_call.data.toList.drop 238 = dktX45_call_8 := dk_seg dksX45_call_7 22 rfl rfl
theorem dksX45_call_9 : cX45_call.data.toList.drop 260 = dktX45_call_9 := dk_seg dksX45_call_8 22 rfl rfl
theorem dksX45_call_10 : cX45_call.data.toList.drop 284 = dktX45_call_10 := dk_seg dksX45_call_9 24 rfl rfl
theorem dksX45_call_11 : cX45_call.data.toList.drop 308 = dktX45_call_11 := dk_seg dksX45_call_10 24 rfl rfl
theorem dksX45_call_12 : cX45_call.data.toList.drop 331 = dktX45_call_12 := dk_seg dksX45_call_11 23 rfl rfl
theorem dX45_call_0 : decode cX45_call 0 = .ok (.aload_n 2, 1) := dk_44 (dk_at dksX45_call_0 0 rfl rfl)
theorem dX45_call_1 : decode cX45_call 1 = .ok (.iconst 0, 1) := dk_3 (dk_at dksX45_call_0 1 rfl rfl)
theorem dX45_call_2 : decode cX45_call 2 = .ok (.laload, 1) := dk_47 (dk_at dksX45_call_0 2 rfl rfl)
theorem dX45_call_3 : decode cX45_call 3 = .ok (.l2i, 1) := dk_136 (dk_at dksX45_call_0 3 rfl rfl)
theorem dX45_call_4 : decode cX45_call 4 = .ok (.istore_n 3, 1) := dk_62 (dk_at dksX45_call_0 4 rfl rfl)
theorem dX45_call_5 : decode cX45_call 5 = .ok (.aload_n 2, 1) := dk_44 (dk_at dksX45_call_0 5 rfl rfl)
theorem dX45_call_6 : decode cX45_call 6 = .ok (.iconst 1, 1) := dk_4 (dk_at dksX45_call_0 6 rfl rfl)
theorem dX45_call_7 : decode cX45_call 7 = .ok (.laload, 1) := dk_47 (dk_at dksX45_call_0 7 rfl rfl)
theorem dX45_call_8 : decode cX45_call 8 = .ok (.l2i, 1) := dk_136 (dk_at dksX45_call_0 8 rfl rfl)
theorem dX45_call_9 : decode cX45_call 9 = .ok (.istore 4, 2) := dk_54 4 (dk_at dksX45_call_0 9 rfl rfl)
theorem dX45_call_11 : decode cX45_call 11 = .ok (.iload_n 1, 1) := dk_27 (dk_at dksX45_call_0 11 rfl rfl)
theorem dX45_call_12 : decode cX45_call 12 = .ok (.tableswitch 318 0 17 #[88, 107, 121, 138, 155, 170, 187, 199, 217, 225, 237, 247, 257, 267, 276, 287, 295, 308], 88) := by decide +kernel
theorem dX45_call_100 : decode cX45_call 100 = .ok (.aload_n 0, 1) := dk_42 (dk_at dksX45_call_2 0 rfl rfl)
theorem dX45_call_101 : decode cX45_call 101 = .ok (.getfield 9, 3) := dk_180 0 9 (dk_at dksX45_call_2 1 rfl rfl)
theorem dX45_call_104 : decode cX45_call 104 = .ok (.iload_n 3, 1) := dk_29 (dk_at dksX45_call_2 4 rfl rfl)
theorem dX45_call_105 : decode cX45_call 105 = .ok (.iload 4, 2) := dk_21 4 (dk_at dksX45_call_2 5 rfl rfl)
theorem dX45_call_107 : decode cX45_call 107 = .ok (.aload_n 2, 1) := dk_44 (dk_at dksX45_call_2 7 rfl rfl)
theorem dX45_call_108 : decode cX45_call 108 = .ok (.iconst 2, 1) := dk_5 (dk_at dksX45_call_2 8 rfl rfl)
theorem dX45_call_109 : decode cX45_call 109 = .ok (.laload, 1) := dk_47 (dk_at dksX45_call_2 9 rfl rfl)
theorem dX45_call_110 : decode cX45_call 110 = .ok (.l2i, 1) := dk_136 (dk_at dksX45_call_2 10 rfl rfl)
theorem dX45_call_111 : decode cX45_call 111 = .ok (.aload_n 2, 1) := dk_44 (dk_at dksX45_call_2 11 rfl rfl)
theorem dX45_call_112 : decode cX45_call 112 = .ok (.iconst 3, 1) := dk_6 (dk_at dksX45_call_2 12 rfl rfl)
theorem dX45_call_113 : decode cX45_call 113 = .ok (.laload, 1) := dk_47 (dk_at dksX45_call_2 13 rfl rfl)
theorem dX45_call_114 : decode cX45_call 114 = .ok (.invokevirtual 74, 3) := dk_182 0 74 (dk_at dksX45_call_2 14 rfl rfl)
theorem dX45_call_117 : decode cX45_call 117 = .ok (.i2l, 1) := dk_133 (dk_at dksX45_call_2 17 rfl rfl)
theorem dX45_call_118 : decode cX45_call 118 = .ok (.lreturn, 1) := dk_173 (dk_at dksX45_call_2 18 rfl rfl)
theorem dX45_call_119 : decode cX45_call 119 = .ok (.aload_n 0, 1) := dk_42 (dk_at dksX45_call_2 19 rfl rfl)
theorem dX45_call_120 : decode cX45_call 120 = .ok (.getfield 9, 3) := dk_180 0 9 (dk_at dksX45_call_2 20 rfl rfl)
theorem dX45_call_123 : decode cX45_call 123 = .ok (.iload_n 3, 1) := dk_29 (dk_at dksX45_call_2 23 rfl rfl)
theorem dX45_call_124 : decode cX45_call 124 = .ok (.iload 4, 2) := dk_21 4 (dk_at dksX45_call_3 0 rfl rfl)
theorem dX45_call_126 : decode cX45_call 126 = .ok (.invokevirtual 79, 3) := dk_182 0 79 (dk_at dksX45_call_3 2 rfl rfl)
theorem dX45_call_129 : decode cX45_call 129 = .ok (.invokestatic 82, 3) := dk_184 0 82 (dk_at dksX45_call_3 5 rfl rfl)
theorem dX45_call_132 : decode cX45_call 132 = .ok (.lreturn, 1) := dk_173 (dk_at dksX45_call_3 8 rfl rfl)
theorem dX45_call_133 : decode cX45_call 133 = .ok (.aload_n 0, 1) := dk_42 (dk_at dksX45_call_3 9 rfl rfl)
theorem dX45_call_134 : decode cX45_call 134 = .ok (.getfield 9, 3) := dk_180 0 9 (dk_at dksX45_call_3 10 rfl rfl)
theorem dX45_call_137 : decode cX45_call 137 = .ok (.iload_n 3, 1) := dk_29 (dk_at dksX45_call_3 13 rfl rfl)
theorem dX45_call_138 : decode cX45_call 138 = .ok (.iload 4, 2) := dk_21 4 (dk_at dksX45_call_3 14 rfl rfl)
theorem dX45_call_140 : decode cX45_call 140 = .ok (.aload_n 2, 1) := dk_44 (dk_at dksX45_call_3 16 rfl rfl)
theorem dX45_call_141 : decode cX45_call 141 = .ok (.iconst 2, 1) := dk_5 (dk_at dksX45_call_3 17 rfl rfl)
theorem dX45_call_142 : decode cX45_call 142 = .ok (.laload, 1) := dk_47 (dk_at dksX45_call_3 18 rfl rfl)
theorem dX45_call_143 : decode cX45_call 143 = .ok (.invokevirtual 86, 3) := dk_182 0 86 (dk_at dksX45_call_3 19 rfl rfl)
theorem dX45_call_146 : decode cX45_call 146 = .ok (.invokestatic 82, 3) := dk_184 0 82 (dk_at dksX45_call_4 0 rfl rfl)
theorem dX45_call_149 : decode cX45_call 149 = .ok (.lreturn, 1) := dk_173 (dk_at dksX45_call_4 3 rfl rfl)
theorem dX45_call_150 : decode cX45_call 150 = .ok (.aload_n 0, 1) := dk_42 (dk_at dksX45_call_4 4 rfl rfl)
theorem dX45_call_151 : decode cX45_call 151 = .ok (.getfield 9, 3) := dk_180 0 9 (dk_at dksX45_call_4 5 rfl rfl)
theorem dX45_call_154 : decode cX45_call 154 = .ok (.iload_n 3, 1) := dk_29 (dk_at dksX45_call_4 8 rfl rfl)
theorem dX45_call_155 : decode cX45_call 155 = .ok (.iload 4, 2) := dk_21 4 (dk_at dksX45_call_4 9 rfl rfl)
theorem dX45_call_157 : decode cX45_call 157 = .ok (.aload_n 2, 1) := dk_44 (dk_at dksX45_call_4 11 rfl rfl)
theorem dX45_call_158 : decode cX45_call 158 = .ok (.iconst 2, 1) := dk_5 (dk_at dksX45_call_4 12 rfl rfl)
theorem dX45_call_159 : decode cX45_call 159 = .ok (.laload, 1) := dk_47 (dk_at dksX45_call_4 13 rfl rfl)
theorem dX45_call_160 : decode cX45_call 160 = .ok (.invokevirtual 89, 3) := dk_182 0 89 (dk_at dksX45_call_4 14 rfl rfl)
theorem dX45_call_163 : decode cX45_call 163 = .ok (.invokestatic 82, 3) := dk_184 0 82 (dk_at dksX45_call_4 17 rfl rfl)
theorem dX45_call_166 : decode cX45_call 166 = .ok (.lreturn, 1) := dk_173 (dk_at dksX45_call_4 20 rfl rfl)
theorem dX45_call_167 : decode cX45_call 167 = .ok (.aload_n 0, 1) := dk_42 (dk_at dksX45_call_4 21 rfl rfl)
theorem dX45_call_168 : decode cX45_call 168 = .ok (.getfield 9, 3) := dk_180 0 9 (dk_at dksX45_call_5 0 rfl rfl)
theorem dX45_call_171 : decode cX45_call 171 = .ok (.iload_n 3, 1) := dk_29 (dk_at dksX45_call_5 3 rfl rfl)
theorem dX45_call_172 : decode cX45_call 172 = .ok (.aload_n 2, 1) := dk_44 (dk_at dksX45_call_5 4 rfl rfl)
theorem dX45_call_173 : decode cX45_call 173 = .ok (.iconst 1, 1) := dk_4 (dk_at dksX45_call_5 5 rfl rfl)
theorem dX45_call_174 : decode cX45_call 174 = .ok (.laload, 1) := dk_47 (dk_at dksX45_call_5 6 rfl rfl)
theorem dX45_call_175 : decode cX45_call 175 = .ok (.invokevirtual 91, 3) := dk_182 0 91 (dk_at dksX45_call_5 7 rfl rfl)
theorem dX45_call_178 : decode cX45_call 178 = .ok (.invokestatic 82, 3) := dk_184 0 82 (dk_at dksX45_call_5 10 rfl rfl)
theorem dX45_call_181 : decode cX45_call 181 = .ok (.lreturn, 1) := dk_173 (dk_at dksX45_call_5 13 rfl rfl)
theorem dX45_call_182 : decode cX45_call 182 = .ok (.aload_n 0, 1) := dk_42 (dk_at dksX45_call_5 14 rfl rfl)
theorem dX45_call_183 : decode cX45_call 183 = .ok (.getfield 9, 3) := dk_180 0 9 (dk_at dksX45_call_5 15 rfl rfl)
theorem dX45_call_186 : decode cX45_call 186 = .ok (.aload_n 2, 1) := dk_44 (dk_at dksX45_call_5 18 rfl rfl)
theorem dX45_call_187 : decode cX45_call 187 = .ok (.iconst 0, 1) := dk_3 (dk_at dksX45_call_5 19 rfl rfl)
theorem dX45_call_188 : decode cX45_call 188 = .ok (.laload, 1) := dk_47 (dk_at dksX45_call_5 20 rfl rfl)
theorem dX45_call_189 : decode cX45_call 189 = .ok (.aload_n 2, 1) := dk_44 (dk_at dksX45_call_5 21 rfl rfl)
theorem dX45_call_190 : decode cX45_call 190 = .ok (.iconst 1, 1) := dk_4 (dk_at dksX45_call_5 22 rfl rfl)
theorem dX45_call_191 : decode cX45_call 191 = .ok (.laload, 1) := dk_47 (dk_at dksX45_call_5 23 rfl rfl)
theorem dX45_call_192 : decode cX45_call 192 = .ok (.invokevirtual 94, 3) := dk_182 0 94 (dk_at dksX45_call_6 0 rfl rfl)
theorem dX45_call_195 : decode cX45_call 195 = .ok (.invokestatic 82, 3) := dk_184 0 82 (dk_at dksX45_call_6 3 rfl rfl)
theorem dX45_call_198 : decode cX45_call 198 = .ok (.lreturn, 1) := dk_173 (dk_at dksX45_call_6 6 rfl rfl)
theorem dX45_call_199 : decode cX45_call 199 = .ok (.aload_n 0, 1) := dk_42 (dk_at dksX45_call_6 7 rfl rfl)
theorem dX45_call_200 : decode cX45_call 200 = .ok (.getfield 9, 3) := dk_180 0 9 (dk_at dksX45_call_6 8 rfl rfl)
theorem dX45_call_203 : decode cX45_call 203 = .ok (.iload_n 3, 1) := dk_29 (dk_at dksX45_call_6 11 rfl rfl)
theorem dX45_call_204 : decode cX45_call 204 = .ok (.invokevirtual 97, 3) := dk_182 0 97 (dk_at dksX45_call_6 12 rfl rfl)
theorem dX45_call_207 : decode cX45_call 207 = .ok (.invokestatic 82, 3) := dk_184 0 82 (dk_at dksX45_call_6 15 rfl rfl)
theorem dX45_call_210 : decode cX45_call 210 = .ok (.lreturn, 1) := dk_173 (dk_at dksX45_call_6 18 rfl rfl)
theorem dX45_call_211 : decode cX45_call 211 = .ok (.aload_n 0, 1) := dk_42 (dk_at dksX45_call_6 19 rfl rfl)
theorem dX45_call_212 : decode cX45_call 212 = .ok (.getfield 9, 3) := dk_180 0 9 (dk_at dksX45_call_6 20 rfl rfl)
theorem dX45_call_215 : decode cX45_call 215 = .ok (.iload_n 3, 1) := dk_29 (dk_at dksX45_call_6 23 rfl rfl)
theorem dX45_call_216 : decode cX45_call 216 = .ok (.aload_n 2, 1) := dk_44 (dk_at dksX45_call_7 0 rfl rfl)
theorem dX45_call_217 : decode cX45_call 217 = .ok (.iconst 1, 1) := dk_4 (dk_at dksX45_call_7 1 rfl rfl)
theorem dX45_call_218 : decode cX45_call 218 = .ok (.laload, 1) := dk_47 (dk_at dksX45_call_7 2 rfl rfl)
theorem dX45_call_219 : decode cX45_call 219 = .ok (.aload_n 2, 1) := dk_44 (dk_at dksX45_call_7 3 rfl rfl)
theorem dX45_call_220 : decode cX45_call 220 = .ok (.iconst 2, 1) := dk_5 (dk_at dksX45_call_7 4 rfl rfl)
theorem dX45_call_221 : decode cX45_call 221 = .ok (.laload, 1) := dk_47 (dk_at dksX45_call_7 5 rfl rfl)
theorem dX45_call_222 : decode cX45_call 222 = .ok (.invokevirtual 100, 3) := dk_182 0 100 (dk_at dksX45_call_7 6 rfl rfl)
theorem dX45_call_225 : decode cX45_call 225 = .ok (.invokestatic 82, 3) := dk_184 0 82 (dk_at dksX45_call_7 9 rfl rfl)
theorem dX45_call_228 : decode cX45_call 228 = .ok (.lreturn, 1) := dk_173 (dk_at dksX45_call_7 12 rfl rfl)
theorem dX45_call_229 : decode cX45_call 229 = .ok (.aload_n 0, 1) := dk_42 (dk_at dksX45_call_7 13 rfl rfl)
theorem dX45_call_230 : decode cX45_call 230 = .ok (.getfield 9, 3) := dk_180 0 9 (dk_at dksX45_call_7 14 rfl rfl)
theorem dX45_call_233 : decode cX45_call 233 = .ok (.invokevirtual 103, 3) := dk_182 0 103 (dk_at dksX45_call_7 17 rfl rfl)
theorem dX45_call_236 : decode cX45_call 236 = .ok (.lreturn, 1) := dk_173 (dk_at dksX45_call_7 20 rfl rfl)
theorem dX45_call_237 : decode cX45_call 237 = .ok (.aload_n 0, 1) := dk_42 (dk_at dksX45_call_7 21 rfl rfl)
theorem dX45_call_238 : decode cX45_call 238 = .ok (.getfield 9, 3) := dk_180 0 9 (dk_at dksX45_call_8 0 rfl rfl)
theorem dX45_call_241 : decode cX45_call 241 = .ok (.aload_n 2, 1) := dk_44 (dk_at dksX45_call_8 3 rfl rfl)
theorem dX45_call_242 : decode cX45_call 242 = .ok (.iconst 0, 1) := dk_3 (dk_at dksX45_call_8 4 rfl rfl)
theorem dX45_call_243 : decode cX45_call 243 = .ok (.laload, 1) := dk_47 (dk_at dksX45_call_8 5 rfl rfl)
theorem dX45_call_244 : decode cX45_call 244 = .ok (.invokevirtual 106, 3) := dk_182 0 106 (dk_at dksX45_call_8 6 rfl rfl)
theorem dX45_call_247 : decode cX45_call 247 = .ok (.i2l, 1) := dk_133 (dk_at dksX45_call_8 9 rfl rfl)
theorem dX45_call_248 : decode cX45_call 248 = .ok (.lreturn, 1) := dk_173 (dk_at dksX45_call_8 10 rfl rfl)
theorem dX45_call_249 : decode cX45_call 249 = .ok (.aload_n 0, 1) := dk_42 (dk_at dksX45_call_8 11 rfl rfl)
theorem dX45_call_250 : decode cX45_call 250 = .ok (.getfield 9, 3) := dk_180 0 9 (dk_at dksX45_call_8 12 rfl rfl)
theorem dX45_call_253 : decode cX45_call 253 = .ok (.iload_n 3, 1) := dk_29 (dk_at dksX45_call_8 15 rfl rfl)
theorem dX45_call_254 : decode cX45_call 254 = .ok (.invokevirtual 109, 3) := dk_182 0 109 (dk_at dksX45_call_8 16 rfl rfl)
theorem dX45_call_257 : decode cX45_call 257 = .ok (.i2l, 1) := dk_133 (dk_at dksX45_call_8 19 rfl rfl)
theorem dX45_call_258 : decode cX45_call 258 = .ok (.lreturn, 1) := dk_173 (dk_at dksX45_call_8 20 rfl rfl)
theorem dX45_call_259 : decode cX45_call 259 = .ok (.aload_n 0, 1) := dk_42 (dk_at dksX45_call_8 21 rfl rfl)
theorem dX45_call_260 : decode cX45_call 260 = .ok (.getfield 9, 3) := dk_180 0 9 (dk_at dksX45_call_9 0 rfl rfl)
theorem dX45_call_263 : decode cX45_call 263 = .ok (.iload_n 3, 1) := dk_29 (dk_at dksX45_call_9 3 rfl rfl)
theorem dX45_call_264 : decode cX45_call 264 = .ok (.invokevirtual 112, 3) := dk_182 0 112 (dk_at dksX45_call_9 4 rfl rfl)
theorem dX45_call_267 : decode cX45_call 267 = .ok (.i2l, 1) := dk_133 (dk_at dksX45_call_9 7 rfl rfl)
theorem dX45_call_268 : decode cX45_call 268 = .ok (.lreturn, 1) := dk_173 (dk_at dksX45_call_9 8 rfl rfl)
theorem dX45_call_269 : decode cX45_call 269 = .ok (.aload_n 0, 1) := dk_42 (dk_at dksX45_call_9 9 rfl rfl)
theorem dX45_call_270 : decode cX45_call 270 = .ok (.getfield 9, 3) := dk_180 0 9 (dk_at dksX45_call_9 10 rfl rfl)
theorem dX45_call_273 : decode cX45_call 273 = .ok (.iload_n 3, 1) := dk_29 (dk_at dksX45_call_9 13 rfl rfl)
theorem dX45_call_274 : decode cX45_call 274 = .ok (.invokevirtual 114, 3) := dk_182 0 114 (dk_at dksX45_call_9 14 rfl rfl)
theorem dX45_call_277 : decode cX45_call 277 = .ok (.i2l, 1) := dk_133 (dk_at dksX45_call_9 17 rfl rfl)
theorem dX45_call_278 : decode cX45_call 278 = .ok (.lreturn, 1) := dk_173 (dk_at dksX45_call_9 18 rfl rfl)
theorem dX45_call_279 : decode cX45_call 279 = .ok (.aload_n 0, 1) := dk_42 (dk_at dksX45_call_9 19 rfl rfl)
theorem dX45_call_280 : decode cX45_call 280 = .ok (.getfield 9, 3) := dk_180 0 9 (dk_at dksX45_call_9 20 rfl rfl)
theorem dX45_call_283 : decode cX45_call 283 = .ok (.iload_n 3, 1) := dk_29 (dk_at dksX45_call_9 23 rfl rfl)
theorem dX45_call_284 : decode cX45_call 284 = .ok (.invokevirtual 116, 3) := dk_182 0 116 (dk_at dksX45_call_10 0 rfl rfl)
theorem dX45_call_287 : decode cX45_call 287 = .ok (.lreturn, 1) := dk_173 (dk_at dksX45_call_10 3 rfl rfl)
theorem dX45_call_288 : decode cX45_call 288 = .ok (.aload_n 0, 1) := dk_42 (dk_at dksX45_call_10 4 rfl rfl)
theorem dX45_call_289 : decode cX45_call 289 = .ok (.getfield 9, 3) := dk_180 0 9 (dk_at dksX45_call_10 5 rfl rfl)
theorem dX45_call_292 : decode cX45_call 292 = .ok (.invokevirtual 119, 3) := dk_182 0 119 (dk_at dksX45_call_10 8 rfl rfl)
theorem dX45_call_295 : decode cX45_call 295 = .ok (.invokestatic 82, 3) := dk_184 0 82 (dk_at dksX45_call_10 11 rfl rfl)
theorem dX45_call_298 : decode cX45_call 298 = .ok (.lreturn, 1) := dk_173 (dk_at dksX45_call_10 14 rfl rfl)
theorem dX45_call_299 : decode cX45_call 299 = .ok (.aload_n 0, 1) := dk_42 (dk_at dksX45_call_10 15 rfl rfl)
theorem dX45_call_300 : decode cX45_call 300 = .ok (.getfield 9, 3) := dk_180 0 9 (dk_at dksX45_call_10 16 rfl rfl)
theorem dX45_call_303 : decode cX45_call 303 = .ok (.invokevirtual 122, 3) := dk_182 0 122 (dk_at dksX45_call_10 19 rfl rfl)
theorem dX45_call_306 : decode cX45_call 306 = .ok (.lreturn, 1) := dk_173 (dk_at dksX45_call_10 22 rfl rfl)
theorem dX45_call_307 : decode cX45_call 307 = .ok (.aload_n 0, 1) := dk_42 (dk_at dksX45_call_10 23 rfl rfl)
theorem dX45_call_308 : decode cX45_call 308 = .ok (.getfield 9, 3) := dk_180 0 9 (dk_at dksX45_call_11 0 rfl rfl)
theorem dX45_call_311 : decode cX45_call 311 = .ok (.iload_n 3, 1) := dk_29 (dk_at dksX45_call_11 3 rfl rfl)
theorem dX45_call_312 : decode cX45_call 312 = .ok (.aload_n 2, 1) := dk_44 (dk_at dksX45_call_11 4 rfl rfl)
theorem dX45_call_313 : decode cX45_call 313 = .ok (.iconst 1, 1) := dk_4 (dk_at dksX45_call_11 5 rfl rfl)
theorem dX45_call_314 : decode cX45_call 314 = .ok (.laload, 1) := dk_47 (dk_at dksX45_call_11 6 rfl rfl)
theorem dX45_call_315 : decode cX45_call 315 = .ok (.invokevirtual 124, 3) := dk_182 0 124 (dk_at dksX45_call_11 7 rfl rfl)
theorem dX45_call_318 : decode cX45_call 318 = .ok (.i2l, 1) := dk_133 (dk_at dksX45_call_11 10 rfl rfl)
theorem dX45_call_319 : decode cX45_call 319 = .ok (.lreturn, 1) := dk_173 (dk_at dksX45_call_11 11 rfl rfl)
theorem dX45_call_320 : decode cX45_call 320 = .ok (.aload_n 0, 1) := dk_42 (dk_at dksX45_call_11 12 rfl rfl)
theorem dX45_call_321 : decode cX45_call 321 = .ok (.getfield 9, 3) := dk_180 0 9 (dk_at dksX45_call_11 13 rfl rfl)
theorem dX45_call_324 : decode cX45_call 324 = .ok (.iload_n 3, 1) := dk_29 (dk_at dksX45_call_11 16 rfl rfl)
theorem dX45_call_325 : decode cX45_call 325 = .ok (.invokevirtual 127, 3) := dk_182 0 127 (dk_at dksX45_call_11 17 rfl rfl)
theorem dX45_call_328 : decode cX45_call 328 = .ok (.i2l, 1) := dk_133 (dk_at dksX45_call_11 20 rfl rfl)
theorem dX45_call_329 : decode cX45_call 329 = .ok (.lreturn, 1) := dk_173 (dk_at dksX45_call_11 21 rfl rfl)
theorem dX45_call_330 : decode cX45_call 330 = .ok (.aload_n 0, 1) := dk_42 (dk_at dksX45_call_11 22 rfl rfl)
theorem dX45_call_331 : decode cX45_call 331 = .ok (.getfield 9, 3) := dk_180 0 9 (dk_at dksX45_call_12 0 rfl rfl)
theorem dX45_call_334 : decode cX45_call 334 = .ok (.iload_n 3, 1) := dk_29 (dk_at dksX45_call_12 3 rfl rfl)
theorem dX45_call_335 : decode cX45_call 335 = .ok (.invokevirtual 129, 3) := dk_182 0 129 (dk_at dksX45_call_12 4 rfl rfl)
theorem dX45_call_338 : decode cX45_call 338 = .ok (.i2l, 1) := dk_133 (dk_at dksX45_call_12 7 rfl rfl)
theorem dX45_call_339 : decode cX45_call 339 = .ok (.lreturn, 1) := dk_173 (dk_at dksX45_call_12 8 rfl rfl)
theorem q451 : (Jvm.Cond.initialized "WasteHouse$ApartRoom") ∈ lw_all := lw_g (lw_at lw_m1 59 rfl) rfl
theorem q1976 : (Jvm.Cond.selects "WasteHouse$ApartRoom" ({ cls := "java/lang/Object", name := "getClass", desc := "()Ljava/lang/Class;" } : Jvm.MethodName) ({ cls := "java/lang/Object", name := "getClass", desc := "()Ljava/lang/Class;" } : Jvm.MethodName)) ∈ lw_all := lw_g (lw_at lw_m7 144 rfl) rfl
theorem q2397 : (Jvm.Cond.instantiable "WasteHouse$ApartRoom" (4 : Nat)) ∈ lw_all := lw_g (lw_at lw_m9 85 rfl) rfl
theorem q2399 : (Jvm.Cond.instanceMethod ({ cls := "WasteHouse$ApartRoom", name := "<init>", desc := "(LWasteHouse$ApartCost;)V" } : Jvm.MethodName)) ∈ lw_all := lw_g (lw_at lw_m9 87 rfl) rfl
theorem q2400 : (Jvm.Cond.code ({ cls := "WasteHouse$ApartRoom", name := "<init>", desc := "(LWasteHouse$ApartCost;)V" } : Jvm.MethodName) prog_5_method_1_code (2 : Nat) (Option.none : Option Jvm.ClassFile.FieldType)) ∈ lw_all := lw_g (lw_at lw_m9 88 rfl) rfl
theorem q2401 : (Jvm.Cond.stringRef "WasteHouse$ApartRoom" (1 : Nat) "apart") ∈ lw_tbl := lw_at lw_m9 89 rfl
theorem q2402 : (Jvm.Cond.methodLink "WasteHouse$ApartRoom" (3 : Nat) ({ cls := "WasteHouse$Room", name := "<init>", desc := "(Ljava/lang/String;)V" } : Jvm.MethodName)) ∈ lw_all := lw_g (lw_at lw_m9 90 rfl) rfl
theorem q2403 : (Jvm.Cond.stringRef "WasteHouse$ApartRoom" (14 : Nat) "act") ∈ lw_tbl := lw_at lw_m9 91 rfl
theorem q2404 : (Jvm.Cond.stringRef "WasteHouse$ApartRoom" (16 : Nat) "iiil") ∈ lw_tbl := lw_at lw_m9 92 rfl
theorem q2405 : (Jvm.Cond.methodLink "WasteHouse$ApartRoom" (18 : Nat) ({ cls := "WasteHouse$ApartRoom", name := "add", desc := "(Ljava/lang/String;Ljava/lang/String;)V" } : Jvm.MethodName)) ∈ lw_all := lw_g (lw_at lw_m9 93 rfl) rfl
theorem q2406 : (Jvm.Cond.sameMethod "WasteHouse$ApartRoom" "WasteHouse$Room" "add" "(Ljava/lang/String;Ljava/lang/String;)V") ∈ lw_all := lw_g (lw_at lw_m9 94 rfl) rfl
theorem q2407 : (Jvm.Cond.selects "WasteHouse$ApartRoom" ({ cls := "WasteHouse$ApartRoom", name := "add", desc := "(Ljava/lang/String;Ljava/lang/String;)V" } : Jvm.MethodName) ({ cls := "WasteHouse$Room", name := "add", desc := "(Ljava/lang/String;Ljava/lang/String;)V" } : Jvm.MethodName)) ∈ lw_all := lw_g (lw_at lw_m9 95 rfl) rfl
theorem q2408 : (Jvm.Cond.stringRef "WasteHouse$ApartRoom" (22 : Nat) "before") ∈ lw_tbl := lw_at lw_m9 96 rfl
theorem q2409 : (Jvm.Cond.stringRef "WasteHouse$ApartRoom" (24 : Nat) "ii") ∈ lw_tbl := lw_at lw_m9 97 rfl
theorem q2410 : (Jvm.Cond.stringRef "WasteHouse$ApartRoom" (26 : Nat) "change") ∈ lw_tbl := lw_at lw_m9 98 rfl
theorem q2411 : (Jvm.Cond.stringRef "WasteHouse$ApartRoom" (28 : Nat) "iil") ∈ lw_tbl := lw_at lw_m9 99 rfl
theorem q2412 : (Jvm.Cond.stringRef "WasteHouse$ApartRoom" (30 : Nat) "turn") ∈ lw_tbl := lw_at lw_m9 100 rfl
theorem q2413 : (Jvm.Cond.stringRef "WasteHouse$ApartRoom" (32 : Nat) "worth") ∈ lw_tbl := lw_at lw_m9 101 rfl
theorem q2414 : (Jvm.Cond.stringRef "WasteHouse$ApartRoom" (34 : Nat) "il") ∈ lw_tbl := lw_at lw_m9 102 rfl
theorem q2415 : (Jvm.Cond.stringRef "WasteHouse$ApartRoom" (36 : Nat) "rest") ∈ lw_tbl := lw_at lw_m9 103 rfl
theorem q2416 : (Jvm.Cond.stringRef "WasteHouse$ApartRoom" (38 : Nat) "ll") ∈ lw_tbl := lw_at lw_m9 104 rfl
theorem q2417 : (Jvm.Cond.stringRef "WasteHouse$ApartRoom" (40 : Nat) "breaks") ∈ lw_tbl := lw_at lw_m9 105 rfl
theorem q2418 : (Jvm.Cond.stringRef "WasteHouse$ApartRoom" (42 : Nat) "i") ∈ lw_tbl := lw_at lw_m9 106 rfl
theorem q2419 : (Jvm.Cond.stringRef "WasteHouse$ApartRoom" (44 : Nat) "sure") ∈ lw_tbl := lw_at lw_m9 107 rfl
theorem q2420 : (Jvm.Cond.stringRef "WasteHouse$ApartRoom" (46 : Nat) "ill") ∈ lw_tbl := lw_at lw_m9 108 rfl
theorem q2421 : (Jvm.Cond.stringRef "WasteHouse$ApartRoom" (48 : Nat) "states") ∈ lw_tbl := lw_at lw_m9 109 rfl
theorem q2422 : (Jvm.Cond.stringRef "WasteHouse$ApartRoom" (50 : Nat) "") ∈ lw_tbl := lw_at lw_m9 110 rfl
theorem q2423 : (Jvm.Cond.stringRef "WasteHouse$ApartRoom" (52 : Nat) "run") ∈ lw_tbl := lw_at lw_m9 111 rfl
theorem q2424 : (Jvm.Cond.stringRef "WasteHouse$ApartRoom" (54 : Nat) "l") ∈ lw_tbl := lw_at lw_m9 112 rfl
theorem q2425 : (Jvm.Cond.stringRef "WasteHouse$ApartRoom" (56 : Nat) "step") ∈ lw_tbl := lw_at lw_m9 113 rfl
theorem q2426 : (Jvm.Cond.stringRef "WasteHouse$ApartRoom" (58 : Nat) "stops") ∈ lw_tbl := lw_at lw_m9 114 rfl
theorem q2427 : (Jvm.Cond.stringRef "WasteHouse$ApartRoom" (60 : Nat) "other") ∈ lw_tbl := lw_at lw_m9 115 rfl
theorem q2428 : (Jvm.Cond.stringRef "WasteHouse$ApartRoom" (62 : Nat) "gain") ∈ lw_tbl := lw_at lw_m9 116 rfl
theorem q2429 : (Jvm.Cond.stringRef "WasteHouse$ApartRoom" (64 : Nat) "proved") ∈ lw_tbl := lw_at lw_m9 117 rfl
theorem q2430 : (Jvm.Cond.stringRef "WasteHouse$ApartRoom" (66 : Nat) "bound") ∈ lw_tbl := lw_at lw_m9 118 rfl
theorem q2431 : (Jvm.Cond.stringRef "WasteHouse$ApartRoom" (68 : Nat) "test") ∈ lw_tbl := lw_at lw_m9 119 rfl
theorem q2432 : (Jvm.Cond.stringRef "WasteHouse$ApartRoom" (70 : Nat) "stations") ∈ lw_tbl := lw_at lw_m9 120 rfl
theorem q2433 : (Jvm.Cond.stringRef "WasteHouse$ApartRoom" (72 : Nat) "station") ∈ lw_tbl := lw_at lw_m9 121 rfl
theorem q2434 : (Jvm.Cond.fieldLink "WasteHouse$ApartRoom" (9 : Nat) "WasteHouse$ApartRoom" "apart" "LWasteHouse$ApartCost;") ∈ lw_all := lw_g (lw_at lw_m9 122 rfl) rfl
theorem q2435 : (Jvm.Cond.laysFinal "WasteHouse$ApartRoom" "WasteHouse$ApartRoom" "apart" "LWasteHouse$ApartCost;") ∈ lw_all := lw_g (lw_at lw_m9 123 rfl) rfl
theorem q2436 : (Jvm.Cond.soleField "WasteHouse$ApartRoom" "apart") ∈ lw_all := lw_g (lw_at lw_m9 124 rfl) rfl
theorem q2437 : (Jvm.Cond.laysFinal "WasteHouse$ApartRoom" "WasteHouse$Room" "name" "Ljava/lang/String;") ∈ lw_all := lw_g (lw_at lw_m9 125 rfl) rfl
theorem q2438 : (Jvm.Cond.laysFinal "WasteHouse$ApartRoom" "WasteHouse$Room" "words" "Ljava/util/ArrayList;") ∈ lw_all := lw_g (lw_at lw_m9 126 rfl) rfl
theorem q2439 : (Jvm.Cond.laysFinal "WasteHouse$ApartRoom" "WasteHouse$Room" "needs" "Ljava/util/ArrayList;") ∈ lw_all := lw_g (lw_at lw_m9 127 rfl) rfl
theorem q2440 : (Jvm.Cond.superclass "WasteHouse$ApartRoom" "WasteHouse$Room") ∈ lw_all := lw_g (lw_at lw_m9 128 rfl) rfl
theorem q3057 : (Jvm.Cond.selects "WasteHouse$ApartRoom" ({ cls := "WasteHouse$Room", name := "find", desc := "(Ljava/lang/String;)I" } : Jvm.MethodName) ({ cls := "WasteHouse$Room", name := "find", desc := "(Ljava/lang/String;)I" } : Jvm.MethodName)) ∈ lw_all := lw_g (lw_at lw_m12 25 rfl) rfl
theorem q3084 : (Jvm.Cond.selects "WasteHouse$ApartRoom" ({ cls := "java/lang/Object", name := "equals", desc := "(Ljava/lang/Object;)Z" } : Jvm.MethodName) ({ cls := "java/lang/Object", name := "equals", desc := "(Ljava/lang/Object;)Z" } : Jvm.MethodName)) ∈ lw_all := lw_g (lw_at lw_m12 52 rfl) rfl
theorem q3171 : (Jvm.Cond.selects "WasteHouse$ApartRoom" ({ cls := "WasteHouse$Room", name := "need", desc := "(I)Ljava/lang/String;" } : Jvm.MethodName) ({ cls := "WasteHouse$Room", name := "need", desc := "(I)Ljava/lang/String;" } : Jvm.MethodName)) ∈ lw_all := lw_g (lw_at lw_m12 139 rfl) rfl
theorem q3262 : (Jvm.Cond.selects "WasteHouse$ApartRoom" ({ cls := "WasteHouse$Room", name := "call", desc := "(I[J)J" } : Jvm.MethodName) ({ cls := "WasteHouse$ApartRoom", name := "call", desc := "(I[J)J" } : Jvm.MethodName)) ∈ lw_all := lw_g (lw_at lw_m12 230 rfl) rfl
theorem q3263 : (Jvm.Cond.instanceMethod ({ cls := "WasteHouse$ApartRoom", name := "call", desc := "(I[J)J" } : Jvm.MethodName)) ∈ lw_all := lw_g (lw_at lw_m12 231 rfl) rfl
theorem q3264 : (Jvm.Cond.code ({ cls := "WasteHouse$ApartRoom", name := "call", desc := "(I[J)J" } : Jvm.MethodName) prog_5_method_2_code (5 : Nat) (Option.some Jvm.ClassFile.FieldType.long)) ∈ lw_all := lw_g (lw_at lw_m12 232 rfl) rfl
theorem q3265 : (Jvm.Cond.methodLink "WasteHouse$ApartRoom" (74 : Nat) ({ cls := "WasteHouse$ApartCost", name := "act", desc := "(IIIJ)I" } : Jvm.MethodName)) ∈ lw_all := lw_g (lw_at lw_m12 233 rfl) rfl
theorem q3279 : (Jvm.Cond.methodLink "WasteHouse$ApartRoom" (79 : Nat) ({ cls := "WasteHouse$ApartCost", name := "before", desc := "(II)Z" } : Jvm.MethodName)) ∈ lw_all := lw_g (lw_at lw_m13 7 rfl) rfl
theorem q3287 : (Jvm.Cond.methodLink "WasteHouse$ApartRoom" (82 : Nat) ({ cls := "WasteHouse$ApartRoom", name := "bit", desc := "(Z)J" } : Jvm.MethodName)) ∈ lw_all := lw_g (lw_at lw_m13 15 rfl) rfl
theorem q3288 : (Jvm.Cond.sameMethod "WasteHouse$ApartRoom" "WasteHouse$Room" "bit" "(Z)J") ∈ lw_all := lw_g (lw_at lw_m13 16 rfl) rfl
theorem q3291 : (Jvm.Cond.methodLink "WasteHouse$ApartRoom" (86 : Nat) ({ cls := "WasteHouse$ApartCost", name := "change", desc := "(IIJ)Z" } : Jvm.MethodName)) ∈ lw_all := lw_g (lw_at lw_m13 19 rfl) rfl
theorem q3301 : (Jvm.Cond.methodLink "WasteHouse$ApartRoom" (89 : Nat) ({ cls := "WasteHouse$ApartCost", name := "turn", desc := "(IIJ)Z" } : Jvm.MethodName)) ∈ lw_all := lw_g (lw_at lw_m13 29 rfl) rfl
theorem q3305 : (Jvm.Cond.methodLink "WasteHouse$ApartRoom" (91 : Nat) ({ cls := "WasteHouse$ApartCost", name := "worth", desc := "(IJ)Z" } : Jvm.MethodName)) ∈ lw_all := lw_g (lw_at lw_m13 33 rfl) rfl
theorem q3310 : (Jvm.Cond.methodLink "WasteHouse$ApartRoom" (94 : Nat) ({ cls := "WasteHouse$ApartCost", name := "rest", desc := "(JJ)Z" } : Jvm.MethodName)) ∈ lw_all := lw_g (lw_at lw_m13 38 rfl) rfl
theorem q3319 : (Jvm.Cond.methodLink "WasteHouse$ApartRoom" (97 : Nat) ({ cls := "WasteHouse$ApartCost", name := "breaks", desc := "(I)Z" } : Jvm.MethodName)) ∈ lw_all := lw_g (lw_at lw_m13 47 rfl) rfl
theorem q3323 : (Jvm.Cond.methodLink "WasteHouse$ApartRoom" (100 : Nat) ({ cls := "WasteHouse$ApartCost", name := "sure", desc := "(IJJ)Z" } : Jvm.MethodName)) ∈ lw_all := lw_g (lw_at lw_m13 51 rfl) rfl
theorem q3329 : (Jvm.Cond.methodLink "WasteHouse$ApartRoom" (103 : Nat) ({ cls := "WasteHouse$ApartCost", name := "states", desc := "()J" } : Jvm.MethodName)) ∈ lw_all := lw_g (lw_at lw_m13 57 rfl) rfl
theorem q3341 : (Jvm.Cond.methodLink "WasteHouse$ApartRoom" (106 : Nat) ({ cls := "WasteHouse$ApartCost", name := "run", desc := "(J)I" } : Jvm.MethodName)) ∈ lw_all := lw_g (lw_at lw_m13 69 rfl) rfl
theorem q3389 : (Jvm.Cond.methodLink "WasteHouse$ApartRoom" (109 : Nat) ({ cls := "WasteHouse$ApartCost", name := "step", desc := "(I)I" } : Jvm.MethodName)) ∈ lw_all := lw_g (lw_at lw_m13 117 rfl) rfl
theorem q3393 : (Jvm.Cond.methodLink "WasteHouse$ApartRoom" (112 : Nat) ({ cls := "WasteHouse$ApartCost", name := "stops", desc := "(I)I" } : Jvm.MethodName)) ∈ lw_all := lw_g (lw_at lw_m13 121 rfl) rfl
theorem q3404 : (Jvm.Cond.methodLink "WasteHouse$ApartRoom" (114 : Nat) ({ cls := "WasteHouse$ApartCost", name := "other", desc := "(I)I" } : Jvm.MethodName)) ∈ lw_all := lw_g (lw_at lw_m13 132 rfl) rfl
theorem q3408 : (Jvm.Cond.methodLink "WasteHouse$ApartRoom" (116 : Nat) ({ cls := "WasteHouse$ApartCost", name := "gain", desc := "(I)J" } : Jvm.MethodName)) ∈ lw_all := lw_g (lw_at lw_m13 136 rfl) rfl
theorem q3412 : (Jvm.Cond.methodLink "WasteHouse$ApartRoom" (119 : Nat) ({ cls := "WasteHouse$ApartCost", name := "proved", desc := "()Z" } : Jvm.MethodName)) ∈ lw_all := lw_g (lw_at lw_m13 140 rfl) rfl
theorem q3416 : (Jvm.Cond.methodLink "WasteHouse$ApartRoom" (122 : Nat) ({ cls := "WasteHouse$ApartCost", name := "bound", desc := "()J" } : Jvm.MethodName)) ∈ lw_all := lw_g (lw_at lw_m13 144 rfl) rfl
theorem q3421 : (Jvm.Cond.methodLink "WasteHouse$ApartRoom" (124 : Nat) ({ cls := "WasteHouse$ApartCost", name := "test", desc := "(IJ)I" } : Jvm.MethodName)) ∈ lw_all := lw_g (lw_at lw_m13 149 rfl) rfl
theorem q3426 : (Jvm.Cond.methodLink "WasteHouse$ApartRoom" (127 : Nat) ({ cls := "WasteHouse$ApartCost", name := "stations", desc := "(I)I" } : Jvm.MethodName)) ∈ lw_all := lw_g (lw_at lw_m13 154 rfl) rfl
theorem q3448 : (Jvm.Cond.methodLink "WasteHouse$ApartRoom" (129 : Nat) ({ cls := "WasteHouse$ApartCost", name := "station", desc := "(I)I" } : Jvm.MethodName)) ∈ lw_all := lw_g (lw_at lw_m13 176 rfl) rfl
theorem q3599 : (Jvm.Cond.selects "WasteHouse$ApartRoom" ({ cls := "java/lang/Object", name := "hashCode", desc := "()I" } : Jvm.MethodName) ({ cls := "java/lang/Object", name := "hashCode", desc := "()I" } : Jvm.MethodName)) ∈ lw_all := lw_g (lw_at lw_m14 87 rfl) rfl
theorem q9608 : (Jvm.Cond.castable "WasteHouse$ApartRoom" "WasteHouse$Room") ∈ lw_tbl := lw_at lw_m39 96 rfl
theorem q9668 : (Jvm.Cond.castable "WasteHouse$ApartRoom" "java/lang/Object") ∈ lw_tbl := lw_at lw_m39 156 rfl
theorem in_X45 : ∀ w ∈ wsX450, w ∈ lw_all := lw_in wsX450 [2437, 2438, 2439, 2435] (by decide +kernel) (by decide +kernel)
