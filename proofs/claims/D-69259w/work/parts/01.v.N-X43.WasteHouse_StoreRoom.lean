/-! WasteHouse$StoreRoom -/
set_option maxRecDepth 100000
def RX43 : String := "WasteHouse$StoreRoom"
def TX43 : u_T := fun k => match k with
  | 0 => ("WasteHouse$Room", "name", "Ljava/lang/String;", true)
  | 1 => ("WasteHouse$Room", "words", "Ljava/util/ArrayList;", true)
  | 2 => ("WasteHouse$Room", "needs", "Ljava/util/ArrayList;", true)
  | _ => ("WasteHouse$StoreRoom", "store", "LWasteHouse$BarredStores;", true)
def tyX43 : Nat → FieldType := fun k => match k with
  | 0 => .object "java/lang/String"
  | 1 => .object "java/util/ArrayList"
  | 2 => .object "java/util/ArrayList"
  | _ => .object "WasteHouse$BarredStores"
abbrev wsX430 : List Cond := u_ws RX43 TX43 4
theorem nmX43 : ∀ a, a < 4 → ∀ b, b < 4 → a ≠ b → (TX43 a).2.1 ≠ (TX43 b).2.1 := by decide +kernel
theorem tyX43_ok : ∀ k, k < 4 → parseFieldDescriptor (TX43 k).2.2.1 = some (tyX43 k) := by decide +kernel
abbrev cX43_init : ByteArray := prog_47_method_1_code
def yX43_init : MethodName := ⟨RX43, "<init>", "(LWasteHouse$BarredStores;)V"⟩
def dkwX43_init_6 : List UInt8 := [182, 0, 18, 42, 18, 66, 18, 68, 182, 0, 18, 177]
abbrev dktX43_init_6 : List UInt8 := dkwX43_init_6 ++ []
def dkwX43_init_5 : List UInt8 := [182, 0, 18, 42, 18, 60, 18, 40, 182, 0, 18, 42, 18, 62, 18, 36, 182, 0, 18, 42, 18, 64, 18, 24]
abbrev dktX43_init_5 : List UInt8 := dkwX43_init_5 ++ dktX43_init_6
def dkwX43_init_4 : List UInt8 := [182, 0, 18, 42, 18, 54, 18, 36, 182, 0, 18, 42, 18, 56, 18, 36, 182, 0, 18, 42, 18, 58, 18, 36]
abbrev dktX43_init_4 : List UInt8 := dkwX43_init_4 ++ dktX43_init_5
def dkwX43_init_3 : List UInt8 := [182, 0, 18, 42, 18, 46, 18, 36, 182, 0, 18, 42, 18, 48, 18, 36, 182, 0, 18, 42, 18, 50, 18, 52]
abbrev dktX43_init_3 : List UInt8 := dkwX43_init_3 ++ dktX43_init_4
def dkwX43_init_2 : List UInt8 := [182, 0, 18, 42, 18, 38, 18, 40, 182, 0, 18, 42, 18, 42, 18, 40, 182, 0, 18, 42, 18, 44, 18, 36]
abbrev dktX43_init_2 : List UInt8 := dkwX43_init_2 ++ dktX43_init_3
def dkwX43_init_1 : List UInt8 := [182, 0, 18, 42, 18, 26, 18, 28, 182, 0, 18, 42, 18, 30, 18, 32, 182, 0, 18, 42, 18, 34, 18, 36]
abbrev dktX43_init_1 : List UInt8 := dkwX43_init_1 ++ dktX43_init_2
def dkwX43_init_0 : List UInt8 := [42, 18, 1, 183, 0, 3, 42, 43, 181, 0, 9, 42, 18, 14, 18, 16, 182, 0, 18, 42, 18, 22, 18, 24]
abbrev dktX43_init_0 : List UInt8 := dkwX43_init_0 ++ dktX43_init_1
theorem dksX43_init_0 : cX43_init.data.toList.drop 0 = dktX43_init_0 := by decide +kernel
theorem dksX43_init_1 : cX43_init.data.toList.drop 24 = dktX43_init_1 := dk_seg dksX43_init_0 24 rfl rfl
theorem dksX43_init_2 : cX43_init.data.toList.drop 48 = dktX43_init_2 := dk_seg dksX43_init_1 24 rfl rfl
theorem dksX43_init_3 : cX43_init.data.toList.drop 72 = dktX43_init_3 := dk_seg dksX43_init_2 24 rfl rfl
theorem dksX43_init_4 : cX43_init.data.toList.drop 96 = dktX43_init_4 := dk_seg dksX43_init_3 24 rfl rfl
theorem dksX43_init_5 : cX43_init.data.toList.drop 120 = dktX43_init_5 := dk_seg dksX43_init_4 24 rfl rfl
theorem dksX43_init_6 : cX43_init.data.toList.drop 144 = dktX43_init_6 := dk_seg dksX43_init_5 24 rfl rfl
theorem dX43_init_0 : decode cX43_init 0 = .ok (.aload_n 0, 1) := dk_42 (dk_at dksX43_init_0 0 rfl rfl)
theorem dX43_init_1 : decode cX43_init 1 = .ok (.ldc 1, 2) := dk_18 1 (dk_at dksX43_init_0 1 rfl rfl)
theorem dX43_init_3 : decode cX43_init 3 = .ok (.invokespecial 3, 3) := dk_183 0 3 (dk_at dksX43_init_0 3 rfl rfl)
theorem dX43_init_6 : decode cX43_init 6 = .ok (.aload_n 0, 1) := dk_42 (dk_at dksX43_init_0 6 rfl rfl)
theorem dX43_init_7 : decode cX43_init 7 = .ok (.aload_n 1, 1) := dk_43 (dk_at dksX43_init_0 7 rfl rfl)
theorem dX43_init_8 : decode cX43_init 8 = .ok (.putfield 9, 3) := dk_181 0 9 (dk_at dksX43_init_0 8 rfl rfl)
theorem dX43_init_11 : decode cX43_init 11 = .ok (.aload_n 0, 1) := dk_42 (dk_at dksX43_init_0 11 rfl rfl)
theorem dX43_init_12 : decode cX43_init 12 = .ok (.ldc 14, 2) := dk_18 14 (dk_at dksX43_init_0 12 rfl rfl)
theorem dX43_init_14 : decode cX43_init 14 = .ok (.ldc 16, 2) := dk_18 16 (dk_at dksX43_init_0 14 rfl rfl)
theorem dX43_init_16 : decode cX43_init 16 = .ok (.invokevirtual 18, 3) := dk_182 0 18 (dk_at dksX43_init_0 16 rfl rfl)
theorem dX43_init_19 : decode cX43_init 19 = .ok (.aload_n 0, 1) := dk_42 (dk_at dksX43_init_0 19 rfl rfl)
theorem dX43_init_20 : decode cX43_init 20 = .ok (.ldc 22, 2) := dk_18 22 (dk_at dksX43_init_0 20 rfl rfl)
theorem dX43_init_22 : decode cX43_init 22 = .ok (.ldc 24, 2) := dk_18 24 (dk_at dksX43_init_0 22 rfl rfl)
theorem dX43_init_24 : decode cX43_init 24 = .ok (.invokevirtual 18, 3) := dk_182 0 18 (dk_at dksX43_init_1 0 rfl rfl)
theorem dX43_init_27 : decode cX43_init 27 = .ok (.aload_n 0, 1) := dk_42 (dk_at dksX43_init_1 3 rfl rfl)
theorem dX43_init_28 : decode cX43_init 28 = .ok (.ldc 26, 2) := dk_18 26 (dk_at dksX43_init_1 4 rfl rfl)
theorem dX43_init_30 : decode cX43_init 30 = .ok (.ldc 28, 2) := dk_18 28 (dk_at dksX43_init_1 6 rfl rfl)
theorem dX43_init_32 : decode cX43_init 32 = .ok (.invokevirtual 18, 3) := dk_182 0 18 (dk_at dksX43_init_1 8 rfl rfl)
theorem dX43_init_35 : decode cX43_init 35 = .ok (.aload_n 0, 1) := dk_42 (dk_at dksX43_init_1 11 rfl rfl)
theorem dX43_init_36 : decode cX43_init 36 = .ok (.ldc 30, 2) := dk_18 30 (dk_at dksX43_init_1 12 rfl rfl)
theorem dX43_init_38 : decode cX43_init 38 = .ok (.ldc 32, 2) := dk_18 32 (dk_at dksX43_init_1 14 rfl rfl)
theorem dX43_init_40 : decode cX43_init 40 = .ok (.invokevirtual 18, 3) := dk_182 0 18 (dk_at dksX43_init_1 16 rfl rfl)
theorem dX43_init_43 : decode cX43_init 43 = .ok (.aload_n 0, 1) := dk_42 (dk_at dksX43_init_1 19 rfl rfl)
theorem dX43_init_44 : decode cX43_init 44 = .ok (.ldc 34, 2) := dk_18 34 (dk_at dksX43_init_1 20 rfl rfl)
theorem dX43_init_46 : decode cX43_init 46 = .ok (.ldc 36, 2) := dk_18 36 (dk_at dksX43_init_1 22 rfl rfl)
theorem dX43_init_48 : decode cX43_init 48 = .ok (.invokevirtual 18, 3) := dk_182 0 18 (dk_at dksX43_init_2 0 rfl rfl)
theorem dX43_init_51 : decode cX43_init 51 = .ok (.aload_n 0, 1) := dk_42 (dk_at dksX43_init_2 3 rfl rfl)
theorem dX43_init_52 : decode cX43_init 52 = .ok (.ldc 38, 2) := dk_18 38 (dk_at dksX43_init_2 4 rfl rfl)
theorem dX43_init_54 : decode cX43_init 54 = .ok (.ldc 40, 2) := dk_18 40 (dk_at dksX43_init_2 6 rfl rfl)
theorem dX43_init_56 : decode cX43_init 56 = .ok (.invokevirtual 18, 3) := dk_182 0 18 (dk_at dksX43_init_2 8 rfl rfl)
theorem dX43_init_59 : decode cX43_init 59 = .ok (.aload_n 0, 1) := dk_42 (dk_at dksX43_init_2 11 rfl rfl)
theorem dX43_init_60 : decode cX43_init 60 = .ok (.ldc 42, 2) := dk_18 42 (dk_at dksX43_init_2 12 rfl rfl)
theorem dX43_init_62 : decode cX43_init 62 = .ok (.ldc 40, 2) := dk_18 40 (dk_at dksX43_init_2 14 rfl rfl)
theorem dX43_init_64 : decode cX43_init 64 = .ok (.invokevirtual 18, 3) := dk_182 0 18 (dk_at dksX43_init_2 16 rfl rfl)
theorem dX43_init_67 : decode cX43_init 67 = .ok (.aload_n 0, 1) := dk_42 (dk_at dksX43_init_2 19 rfl rfl)
theorem dX43_init_68 : decode cX43_init 68 = .ok (.ldc 44, 2) := dk_18 44 (dk_at dksX43_init_2 20 rfl rfl)
theorem dX43_init_70 : decode cX43_init 70 = .ok (.ldc 36, 2) := dk_18 36 (dk_at dksX43_init_2 22 rfl rfl)
theorem dX43_init_72 : decode cX43_init 72 = .ok (.invokevirtual 18, 3) := dk_182 0 18 (dk_at dksX43_init_3 0 rfl rfl)
theorem dX43_init_75 : decode cX43_init 75 = .ok (.aload_n 0, 1) := dk_42 (dk_at dksX43_init_3 3 rfl rfl)
theorem dX43_init_76 : decode cX43_init 76 = .ok (.ldc 46, 2) := dk_18 46 (dk_at dksX43_init_3 4 rfl rfl)
theorem dX43_init_78 : decode cX43_init 78 = .ok (.ldc 36, 2) := dk_18 36 (dk_at dksX43_init_3 6 rfl rfl)
theorem dX43_init_80 : decode cX43_init 80 = .ok (.invokevirtual 18, 3) := dk_182 0 18 (dk_at dksX43_init_3 8 rfl rfl)
theorem dX43_init_83 : decode cX43_init 83 = .ok (.aload_n 0, 1) := dk_42 (dk_at dksX43_init_3 11 rfl rfl)
theorem dX43_init_84 : decode cX43_init 84 = .ok (.ldc 48, 2) := dk_18 48 (dk_at dksX43_init_3 12 rfl rfl)
theorem dX43_init_86 : decode cX43_init 86 = .ok (.ldc 36, 2) := dk_18 36 (dk_at dksX43_init_3 14 rfl rfl)
theorem dX43_init_88 : decode cX43_init 88 = .ok (.invokevirtual 18, 3) := dk_182 0 18 (dk_at dksX43_init_3 16 rfl rfl)
theorem dX43_init_91 : decode cX43_init 91 = .ok (.aload_n 0, 1) := dk_42 (dk_at dksX43_init_3 19 rfl rfl)
theorem dX43_init_92 : decode cX43_init 92 = .ok (.ldc 50, 2) := dk_18 50 (dk_at dksX43_init_3 20 rfl rfl)
theorem dX43_init_94 : decode cX43_init 94 = .ok (.ldc 52, 2) := dk_18 52 (dk_at dksX43_init_3 22 rfl rfl)
theorem dX43_init_96 : decode cX43_init 96 = .ok (.invokevirtual 18, 3) := dk_182 0 18 (dk_at dksX43_init_4 0 rfl rfl)
theorem dX43_init_99 : decode cX43_init 99 = .ok (.aload_n 0, 1) := dk_42 (dk_at dksX43_init_4 3 rfl rfl)
theorem dX43_init_100 : decode cX43_init 100 = .ok (.ldc 54, 2) := dk_18 54 (dk_at dksX43_init_4 4 rfl rfl)
theorem dX43_init_102 : decode cX43_init 102 = .ok (.ldc 36, 2) := dk_18 36 (dk_at dksX43_init_4 6 rfl rfl)
theorem dX43_init_104 : decode cX43_init 104 = .ok (.invokevirtual 18, 3) := dk_182 0 18 (dk_at dksX43_init_4 8 rfl rfl)
theorem dX43_init_107 : decode cX43_init 107 = .ok (.aload_n 0, 1) := dk_42 (dk_at dksX43_init_4 11 rfl rfl)
theorem dX43_init_108 : decode cX43_init 108 = .ok (.ldc 56, 2) := dk_18 56 (dk_at dksX43_init_4 12 rfl rfl)
theorem dX43_init_110 : decode cX43_init 110 = .ok (.ldc 36, 2) := dk_18 36 (dk_at dksX43_init_4 14 rfl rfl)
theorem dX43_init_112 : decode cX43_init 112 = .ok (.invokevirtual 18, 3) := dk_182 0 18 (dk_at dksX43_init_4 16 rfl rfl)
theorem dX43_init_115 : decode cX43_init 115 = .ok (.aload_n 0, 1) := dk_42 (dk_at dksX43_init_4 19 rfl rfl)
theorem dX43_init_116 : decode cX43_init 116 = .ok (.ldc 58, 2) := dk_18 58 (dk_at dksX43_init_4 20 rfl rfl)
theorem dX43_init_118 : decode cX43_init 118 = .ok (.ldc 36, 2) := dk_18 36 (dk_at dksX43_init_4 22 rfl rfl)
theorem dX43_init_120 : decode cX43_init 120 = .ok (.invokevirtual 18, 3) := dk_182 0 18 (dk_at dksX43_init_5 0 rfl rfl)
theorem dX43_init_123 : decode cX43_init 123 = .ok (.aload_n 0, 1) := dk_42 (dk_at dksX43_init_5 3 rfl rfl)
theorem dX43_init_124 : decode cX43_init 124 = .ok (.ldc 60, 2) := dk_18 60 (dk_at dksX43_init_5 4 rfl rfl)
theorem dX43_init_126 : decode cX43_init 126 = .ok (.ldc 40, 2) := dk_18 40 (dk_at dksX43_init_5 6 rfl rfl)
theorem dX43_init_128 : decode cX43_init 128 = .ok (.invokevirtual 18, 3) := dk_182 0 18 (dk_at dksX43_init_5 8 rfl rfl)
theorem dX43_init_131 : decode cX43_init 131 = .ok (.aload_n 0, 1) := dk_42 (dk_at dksX43_init_5 11 rfl rfl)
theorem dX43_init_132 : decode cX43_init 132 = .ok (.ldc 62, 2) := dk_18 62 (dk_at dksX43_init_5 12 rfl rfl)
theorem dX43_init_134 : decode cX43_init 134 = .ok (.ldc 36, 2) := dk_18 36 (dk_at dksX43_init_5 14 rfl rfl)
theorem dX43_init_136 : decode cX43_init 136 = .ok (.invokevirtual 18, 3) := dk_182 0 18 (dk_at dksX43_init_5 16 rfl rfl)
theorem dX43_init_139 : decode cX43_init 139 = .ok (.aload_n 0, 1) := dk_42 (dk_at dksX43_init_5 19 rfl rfl)
theorem dX43_init_140 : decode cX43_init 140 = .ok (.ldc 64, 2) := dk_18 64 (dk_at dksX43_init_5 20 rfl rfl)
theorem dX43_init_142 : decode cX43_init 142 = .ok (.ldc 24, 2) := dk_18 24 (dk_at dksX43_init_5 22 rfl rfl)
theorem dX43_init_144 : decode cX43_init 144 = .ok (.invokevirtual 18, 3) := dk_182 0 18 (dk_at dksX43_init_6 0 rfl rfl)
theorem dX43_init_147 : decode cX43_init 147 = .ok (.aload_n 0, 1) := dk_42 (dk_at dksX43_init_6 3 rfl rfl)
theorem dX43_init_148 : decode cX43_init 148 = .ok (.ldc 66, 2) := dk_18 66 (dk_at dksX43_init_6 4 rfl rfl)
theorem dX43_init_150 : decode cX43_init 150 = .ok (.ldc 68, 2) := dk_18 68 (dk_at dksX43_init_6 6 rfl rfl)
theorem dX43_init_152 : decode cX43_init 152 = .ok (.invokevirtual 18, 3) := dk_182 0 18 (dk_at dksX43_init_6 8 rfl rfl)
theorem dX43_init_155 : decode cX43_init 155 = .ok (.return_, 1) := dk_177 (dk_at dksX43_init_6 11 rfl rfl)
abbrev cX43_call : ByteArray := prog_47_method_2_code
def yX43_call : MethodName := ⟨RX43, "call", "(I[J)J"⟩
def dkwX43_call_12 : List UInt8 := [42, 180, 0, 9, 182, 0, 123, 184, 0, 75, 173]
abbrev dktX43_call_12 : List UInt8 := dkwX43_call_12 ++ []
def dkwX43_call_11 : List UInt8 := [180, 0, 9, 29, 21, 4, 182, 0, 118, 133, 173, 42, 180, 0, 9, 29, 44, 4, 47, 182, 0, 120, 133, 173]
abbrev dktX43_call_11 : List UInt8 := dkwX43_call_11 ++ dktX43_call_12
def dkwX43_call_10 : List UInt8 := [180, 0, 9, 29, 21, 4, 182, 0, 114, 184, 0, 75, 173, 42, 180, 0, 9, 29, 182, 0, 116, 133, 173, 42]
abbrev dktX43_call_10 : List UInt8 := dkwX43_call_10 ++ dktX43_call_11
def dkwX43_call_9 : List UInt8 := [29, 21, 4, 182, 0, 109, 133, 173, 42, 180, 0, 9, 29, 21, 4, 182, 0, 111, 184, 0, 75, 173, 42]
abbrev dktX43_call_9 : List UInt8 := dkwX43_call_9 ++ dktX43_call_10
def dkwX43_call_8 : List UInt8 := [180, 0, 9, 29, 21, 4, 44, 5, 47, 136, 135, 20, 0, 104, 111, 182, 0, 106, 133, 173, 42, 180, 0, 9]
abbrev dktX43_call_8 : List UInt8 := dkwX43_call_8 ++ dktX43_call_9
def dkwX43_call_7 : List UInt8 := [180, 0, 9, 29, 21, 4, 182, 0, 99, 133, 173, 42, 180, 0, 9, 29, 21, 4, 182, 0, 101, 173, 42]
abbrev dktX43_call_7 : List UInt8 := dkwX43_call_7 ++ dktX43_call_8
def dkwX43_call_6 : List UInt8 := [180, 0, 9, 29, 182, 0, 95, 133, 173, 42, 180, 0, 9, 29, 21, 4, 182, 0, 97, 133, 173, 42]
abbrev dktX43_call_6 : List UInt8 := dkwX43_call_6 ++ dktX43_call_7
def dkwX43_call_5 : List UInt8 := [180, 0, 9, 29, 21, 4, 182, 0, 88, 133, 173, 42, 180, 0, 9, 29, 182, 0, 91, 133, 173, 42]
abbrev dktX43_call_5 : List UInt8 := dkwX43_call_5 ++ dktX43_call_6
def dkwX43_call_4 : List UInt8 := [182, 0, 82, 133, 173, 42, 180, 0, 9, 29, 44, 4, 47, 44, 5, 47, 182, 0, 85, 133, 173, 42]
abbrev dktX43_call_4 : List UInt8 := dkwX43_call_4 ++ dktX43_call_5
def dkwX43_call_3 : List UInt8 := [4, 47, 182, 0, 79, 184, 0, 75, 173, 42, 180, 0, 9, 44, 3, 47, 44, 4, 47, 44, 5, 47]
abbrev dktX43_call_3 : List UInt8 := dkwX43_call_3 ++ dktX43_call_4
def dkwX43_call_2 : List UInt8 := [42, 180, 0, 9, 29, 21, 4, 44, 5, 47, 136, 182, 0, 70, 184, 0, 75, 173, 42, 180, 0, 9, 29, 44]
abbrev dktX43_call_2 : List UInt8 := dkwX43_call_2 ++ dktX43_call_3
def dkwX43_call_1 : List UInt8 := [170, 0, 0, 0, 0, 0, 1, 58, 0, 0, 0, 0, 0, 0, 0, 16, 0, 0, 0, 84, 0, 0, 0, 102, 0, 0, 0, 117, 0, 0, 0, 135, 0, 0, 0, 151, 0, 0, 0, 163, 0, 0, 0, 173, 0, 0, 0, 183, 0, 0, 0, 195, 0, 0, 0, 207, 0, 0, 0, 218, 0, 0, 0, 239, 0, 0, 0, 251, 0, 0, 1, 9, 0, 0, 1, 23, 0, 0, 1, 33, 0, 0, 1, 45]
abbrev dktX43_call_1 : List UInt8 := dkwX43_call_1 ++ dktX43_call_2
def dkwX43_call_0 : List UInt8 := [44, 3, 47, 136, 62, 44, 4, 47, 136, 54, 4, 27]
abbrev dktX43_call_0 : List UInt8 := dkwX43_call_0 ++ dktX43_call_1
theorem dksX43_call_0 : cX43_call.data.toList.drop 0 = dktX43_call_0 := by decide +kernel
theorem dksX43_call_1 : cX43_call.data.toList.drop 12 = dktX43_call_1 := dk_seg dksX43_call_0 12 rfl rfl
theorem dksX43_call_2 : cX43_call.data.toList.drop 96 = dktX43_call_2 := dk_seg dksX43_call_1 84 rfl rfl
theorem dksX43_call_3 : cX43_call.data.toList.drop 120 = dktX43_call_3 := dk_seg dksX43_call_2 24 rfl rfl
theorem dksX43_call_4 : cX43_call.data.toList.drop 142 = dktX43_call_4 := dk_seg dksX43_call_3 22 rfl rfl
theorem dksX43_call_5 : cX43_call.data.toList.drop 164 = dktX43_call_5 := dk_seg dksX43_call_4 22 rfl rfl
theorem dksX43_call_6 : cX43_call.data.toList.drop 186 = dktX43_call_6 := dk_seg dksX43_call_5 22 rfl rfl
theorem dksX43_call_7 : cX43_call.data.toList.drop 208 = dktX43_call_7 := dk_seg dksX43_call_6 22 rfl rfl
theorem dksX43_call_8 : cX43_call.data.toList.drop 231 = dktX43_call_8 := dk_seg dksX43_call_7 23 rfl rfl
theorem dksX43_call_9 : cX43_call.data.toList.drop 255 = dktX43_call_9 := dk_seg dksX43_call_8 24 rfl rfl
theorem dksX43_call_10 : cX43_call.data.toList.drop 278 = dktX43_call_10 := dk_seg dksX43_call_9 23 rfl rfl
theorem dksX43_call_11 : cX43_call.data.toList.drop 302 = dktX43_call_11 := dk_seg dksX43_call_10 24 rfl rfl
theorem dksX43_call_12 : cX43_call.data.toList.drop 326 = dktX43_call_12 := dk_seg dksX43_call_11 24 rfl rfl
theorem dX43_call_0 : decode cX43_call 0 = .ok (.aload_n 2, 1) := dk_44 (dk_at dksX43_call_0 0 rfl rfl)
theorem dX43_call_1 : decode cX43_call 1 = .ok (.iconst 0, 1) := dk_3 (dk_at dksX43_call_0 1 rfl rfl)
theorem dX43_call_2 : decode cX43_call 2 = .ok (.laload, 1) := dk_47 (dk_at dksX43_call_0 2 rfl rfl)
theorem dX43_call_3 : decode cX43_call 3 = .ok (.l2i, 1) := dk_136 (dk_at dksX43_call_0 3 rfl rfl)
theorem dX43_call_4 : decode cX43_call 4 = .ok (.istore_n 3, 1) := dk_62 (dk_at dksX43_call_0 4 rfl rfl)
theorem dX43_call_5 : decode cX43_call 5 = .ok (.aload_n 2, 1) := dk_44 (dk_at dksX43_call_0 5 rfl rfl)
theorem dX43_call_6 : decode cX43_call 6 = .ok (.iconst 1, 1) := dk_4 (dk_at dksX43_call_0 6 rfl rfl)
theorem dX43_call_7 : decode cX43_call 7 = .ok (.laload, 1) := dk_47 (dk_at dksX43_call_0 7 rfl rfl)
theorem dX43_call_8 : decode cX43_call 8 = .ok (.l2i, 1) := dk_136 (dk_at dksX43_call_0 8 rfl rfl)
theorem dX43_call_9 : decode cX43_call 9 = .ok (.istore 4, 2) := dk_54 4 (dk_at dksX43_call_0 9 rfl rfl)
theorem dX43_call_11 : decode cX43_call 11 = .ok (.iload_n 1, 1) := dk_27 (dk_at dksX43_call_0 11 rfl rfl)
theorem dX43_call_12 : decode cX43_call 12 = .ok (.tableswitch 314 0 16 #[84, 102, 117, 135, 151, 163, 173, 183, 195, 207, 218, 239, 251, 265, 279, 289, 301], 84) := by decide +kernel
theorem dX43_call_96 : decode cX43_call 96 = .ok (.aload_n 0, 1) := dk_42 (dk_at dksX43_call_2 0 rfl rfl)
theorem dX43_call_97 : decode cX43_call 97 = .ok (.getfield 9, 3) := dk_180 0 9 (dk_at dksX43_call_2 1 rfl rfl)
theorem dX43_call_100 : decode cX43_call 100 = .ok (.iload_n 3, 1) := dk_29 (dk_at dksX43_call_2 4 rfl rfl)
theorem dX43_call_101 : decode cX43_call 101 = .ok (.iload 4, 2) := dk_21 4 (dk_at dksX43_call_2 5 rfl rfl)
theorem dX43_call_103 : decode cX43_call 103 = .ok (.aload_n 2, 1) := dk_44 (dk_at dksX43_call_2 7 rfl rfl)
theorem dX43_call_104 : decode cX43_call 104 = .ok (.iconst 2, 1) := dk_5 (dk_at dksX43_call_2 8 rfl rfl)
theorem dX43_call_105 : decode cX43_call 105 = .ok (.laload, 1) := dk_47 (dk_at dksX43_call_2 9 rfl rfl)
theorem dX43_call_106 : decode cX43_call 106 = .ok (.l2i, 1) := dk_136 (dk_at dksX43_call_2 10 rfl rfl)
theorem dX43_call_107 : decode cX43_call 107 = .ok (.invokevirtual 70, 3) := dk_182 0 70 (dk_at dksX43_call_2 11 rfl rfl)
theorem dX43_call_110 : decode cX43_call 110 = .ok (.invokestatic 75, 3) := dk_184 0 75 (dk_at dksX43_call_2 14 rfl rfl)
theorem dX43_call_113 : decode cX43_call 113 = .ok (.lreturn, 1) := dk_173 (dk_at dksX43_call_2 17 rfl rfl)
theorem dX43_call_114 : decode cX43_call 114 = .ok (.aload_n 0, 1) := dk_42 (dk_at dksX43_call_2 18 rfl rfl)
theorem dX43_call_115 : decode cX43_call 115 = .ok (.getfield 9, 3) := dk_180 0 9 (dk_at dksX43_call_2 19 rfl rfl)
theorem dX43_call_118 : decode cX43_call 118 = .ok (.iload_n 3, 1) := dk_29 (dk_at dksX43_call_2 22 rfl rfl)
theorem dX43_call_119 : decode cX43_call 119 = .ok (.aload_n 2, 1) := dk_44 (dk_at dksX43_call_2 23 rfl rfl)
theorem dX43_call_120 : decode cX43_call 120 = .ok (.iconst 1, 1) := dk_4 (dk_at dksX43_call_3 0 rfl rfl)
theorem dX43_call_121 : decode cX43_call 121 = .ok (.laload, 1) := dk_47 (dk_at dksX43_call_3 1 rfl rfl)
theorem dX43_call_122 : decode cX43_call 122 = .ok (.invokevirtual 79, 3) := dk_182 0 79 (dk_at dksX43_call_3 2 rfl rfl)
theorem dX43_call_125 : decode cX43_call 125 = .ok (.invokestatic 75, 3) := dk_184 0 75 (dk_at dksX43_call_3 5 rfl rfl)
theorem dX43_call_128 : decode cX43_call 128 = .ok (.lreturn, 1) := dk_173 (dk_at dksX43_call_3 8 rfl rfl)
theorem dX43_call_129 : decode cX43_call 129 = .ok (.aload_n 0, 1) := dk_42 (dk_at dksX43_call_3 9 rfl rfl)
theorem dX43_call_130 : decode cX43_call 130 = .ok (.getfield 9, 3) := dk_180 0 9 (dk_at dksX43_call_3 10 rfl rfl)
theorem dX43_call_133 : decode cX43_call 133 = .ok (.aload_n 2, 1) := dk_44 (dk_at dksX43_call_3 13 rfl rfl)
theorem dX43_call_134 : decode cX43_call 134 = .ok (.iconst 0, 1) := dk_3 (dk_at dksX43_call_3 14 rfl rfl)
theorem dX43_call_135 : decode cX43_call 135 = .ok (.laload, 1) := dk_47 (dk_at dksX43_call_3 15 rfl rfl)
theorem dX43_call_136 : decode cX43_call 136 = .ok (.aload_n 2, 1) := dk_44 (dk_at dksX43_call_3 16 rfl rfl)
theorem dX43_call_137 : decode cX43_call 137 = .ok (.iconst 1, 1) := dk_4 (dk_at dksX43_call_3 17 rfl rfl)
theorem dX43_call_138 : decode cX43_call 138 = .ok (.laload, 1) := dk_47 (dk_at dksX43_call_3 18 rfl rfl)
theorem dX43_call_139 : decode cX43_call 139 = .ok (.aload_n 2, 1) := dk_44 (dk_at dksX43_call_3 19 rfl rfl)
theorem dX43_call_140 : decode cX43_call 140 = .ok (.iconst 2, 1) := dk_5 (dk_at dksX43_call_3 20 rfl rfl)
theorem dX43_call_141 : decode cX43_call 141 = .ok (.laload, 1) := dk_47 (dk_at dksX43_call_3 21 rfl rfl)
theorem dX43_call_142 : decode cX43_call 142 = .ok (.invokevirtual 82, 3) := dk_182 0 82 (dk_at dksX43_call_4 0 rfl rfl)
theorem dX43_call_145 : decode cX43_call 145 = .ok (.i2l, 1) := dk_133 (dk_at dksX43_call_4 3 rfl rfl)
theorem dX43_call_146 : decode cX43_call 146 = .ok (.lreturn, 1) := dk_173 (dk_at dksX43_call_4 4 rfl rfl)
theorem dX43_call_147 : decode cX43_call 147 = .ok (.aload_n 0, 1) := dk_42 (dk_at dksX43_call_4 5 rfl rfl)
theorem dX43_call_148 : decode cX43_call 148 = .ok (.getfield 9, 3) := dk_180 0 9 (dk_at dksX43_call_4 6 rfl rfl)
theorem dX43_call_151 : decode cX43_call 151 = .ok (.iload_n 3, 1) := dk_29 (dk_at dksX43_call_4 9 rfl rfl)
theorem dX43_call_152 : decode cX43_call 152 = .ok (.aload_n 2, 1) := dk_44 (dk_at dksX43_call_4 10 rfl rfl)
theorem dX43_call_153 : decode cX43_call 153 = .ok (.iconst 1, 1) := dk_4 (dk_at dksX43_call_4 11 rfl rfl)
theorem dX43_call_154 : decode cX43_call 154 = .ok (.laload, 1) := dk_47 (dk_at dksX43_call_4 12 rfl rfl)
theorem dX43_call_155 : decode cX43_call 155 = .ok (.aload_n 2, 1) := dk_44 (dk_at dksX43_call_4 13 rfl rfl)
theorem dX43_call_156 : decode cX43_call 156 = .ok (.iconst 2, 1) := dk_5 (dk_at dksX43_call_4 14 rfl rfl)
theorem dX43_call_157 : decode cX43_call 157 = .ok (.laload, 1) := dk_47 (dk_at dksX43_call_4 15 rfl rfl)
theorem dX43_call_158 : decode cX43_call 158 = .ok (.invokevirtual 85, 3) := dk_182 0 85 (dk_at dksX43_call_4 16 rfl rfl)
theorem dX43_call_161 : decode cX43_call 161 = .ok (.i2l, 1) := dk_133 (dk_at dksX43_call_4 19 rfl rfl)
theorem dX43_call_162 : decode cX43_call 162 = .ok (.lreturn, 1) := dk_173 (dk_at dksX43_call_4 20 rfl rfl)
theorem dX43_call_163 : decode cX43_call 163 = .ok (.aload_n 0, 1) := dk_42 (dk_at dksX43_call_4 21 rfl rfl)
theorem dX43_call_164 : decode cX43_call 164 = .ok (.getfield 9, 3) := dk_180 0 9 (dk_at dksX43_call_5 0 rfl rfl)
theorem dX43_call_167 : decode cX43_call 167 = .ok (.iload_n 3, 1) := dk_29 (dk_at dksX43_call_5 3 rfl rfl)
theorem dX43_call_168 : decode cX43_call 168 = .ok (.iload 4, 2) := dk_21 4 (dk_at dksX43_call_5 4 rfl rfl)
theorem dX43_call_170 : decode cX43_call 170 = .ok (.invokevirtual 88, 3) := dk_182 0 88 (dk_at dksX43_call_5 6 rfl rfl)
theorem dX43_call_173 : decode cX43_call 173 = .ok (.i2l, 1) := dk_133 (dk_at dksX43_call_5 9 rfl rfl)
theorem dX43_call_174 : decode cX43_call 174 = .ok (.lreturn, 1) := dk_173 (dk_at dksX43_call_5 10 rfl rfl)
theorem dX43_call_175 : decode cX43_call 175 = .ok (.aload_n 0, 1) := dk_42 (dk_at dksX43_call_5 11 rfl rfl)
theorem dX43_call_176 : decode cX43_call 176 = .ok (.getfield 9, 3) := dk_180 0 9 (dk_at dksX43_call_5 12 rfl rfl)
theorem dX43_call_179 : decode cX43_call 179 = .ok (.iload_n 3, 1) := dk_29 (dk_at dksX43_call_5 15 rfl rfl)
theorem dX43_call_180 : decode cX43_call 180 = .ok (.invokevirtual 91, 3) := dk_182 0 91 (dk_at dksX43_call_5 16 rfl rfl)
theorem dX43_call_183 : decode cX43_call 183 = .ok (.i2l, 1) := dk_133 (dk_at dksX43_call_5 19 rfl rfl)
theorem dX43_call_184 : decode cX43_call 184 = .ok (.lreturn, 1) := dk_173 (dk_at dksX43_call_5 20 rfl rfl)
theorem dX43_call_185 : decode cX43_call 185 = .ok (.aload_n 0, 1) := dk_42 (dk_at dksX43_call_5 21 rfl rfl)
theorem dX43_call_186 : decode cX43_call 186 = .ok (.getfield 9, 3) := dk_180 0 9 (dk_at dksX43_call_6 0 rfl rfl)
theorem dX43_call_189 : decode cX43_call 189 = .ok (.iload_n 3, 1) := dk_29 (dk_at dksX43_call_6 3 rfl rfl)
theorem dX43_call_190 : decode cX43_call 190 = .ok (.invokevirtual 95, 3) := dk_182 0 95 (dk_at dksX43_call_6 4 rfl rfl)
theorem dX43_call_193 : decode cX43_call 193 = .ok (.i2l, 1) := dk_133 (dk_at dksX43_call_6 7 rfl rfl)
theorem dX43_call_194 : decode cX43_call 194 = .ok (.lreturn, 1) := dk_173 (dk_at dksX43_call_6 8 rfl rfl)
theorem dX43_call_195 : decode cX43_call 195 = .ok (.aload_n 0, 1) := dk_42 (dk_at dksX43_call_6 9 rfl rfl)
theorem dX43_call_196 : decode cX43_call 196 = .ok (.getfield 9, 3) := dk_180 0 9 (dk_at dksX43_call_6 10 rfl rfl)
theorem dX43_call_199 : decode cX43_call 199 = .ok (.iload_n 3, 1) := dk_29 (dk_at dksX43_call_6 13 rfl rfl)
theorem dX43_call_200 : decode cX43_call 200 = .ok (.iload 4, 2) := dk_21 4 (dk_at dksX43_call_6 14 rfl rfl)
theorem dX43_call_202 : decode cX43_call 202 = .ok (.invokevirtual 97, 3) := dk_182 0 97 (dk_at dksX43_call_6 16 rfl rfl)
theorem dX43_call_205 : decode cX43_call 205 = .ok (.i2l, 1) := dk_133 (dk_at dksX43_call_6 19 rfl rfl)
theorem dX43_call_206 : decode cX43_call 206 = .ok (.lreturn, 1) := dk_173 (dk_at dksX43_call_6 20 rfl rfl)
theorem dX43_call_207 : decode cX43_call 207 = .ok (.aload_n 0, 1) := dk_42 (dk_at dksX43_call_6 21 rfl rfl)
theorem dX43_call_208 : decode cX43_call 208 = .ok (.getfield 9, 3) := dk_180 0 9 (dk_at dksX43_call_7 0 rfl rfl)
theorem dX43_call_211 : decode cX43_call 211 = .ok (.iload_n 3, 1) := dk_29 (dk_at dksX43_call_7 3 rfl rfl)
theorem dX43_call_212 : decode cX43_call 212 = .ok (.iload 4, 2) := dk_21 4 (dk_at dksX43_call_7 4 rfl rfl)
theorem dX43_call_214 : decode cX43_call 214 = .ok (.invokevirtual 99, 3) := dk_182 0 99 (dk_at dksX43_call_7 6 rfl rfl)
theorem dX43_call_217 : decode cX43_call 217 = .ok (.i2l, 1) := dk_133 (dk_at dksX43_call_7 9 rfl rfl)
theorem dX43_call_218 : decode cX43_call 218 = .ok (.lreturn, 1) := dk_173 (dk_at dksX43_call_7 10 rfl rfl)
theorem dX43_call_219 : decode cX43_call 219 = .ok (.aload_n 0, 1) := dk_42 (dk_at dksX43_call_7 11 rfl rfl)
theorem dX43_call_220 : decode cX43_call 220 = .ok (.getfield 9, 3) := dk_180 0 9 (dk_at dksX43_call_7 12 rfl rfl)
theorem dX43_call_223 : decode cX43_call 223 = .ok (.iload_n 3, 1) := dk_29 (dk_at dksX43_call_7 15 rfl rfl)
theorem dX43_call_224 : decode cX43_call 224 = .ok (.iload 4, 2) := dk_21 4 (dk_at dksX43_call_7 16 rfl rfl)
theorem dX43_call_226 : decode cX43_call 226 = .ok (.invokevirtual 101, 3) := dk_182 0 101 (dk_at dksX43_call_7 18 rfl rfl)
theorem dX43_call_229 : decode cX43_call 229 = .ok (.lreturn, 1) := dk_173 (dk_at dksX43_call_7 21 rfl rfl)
theorem dX43_call_230 : decode cX43_call 230 = .ok (.aload_n 0, 1) := dk_42 (dk_at dksX43_call_7 22 rfl rfl)
theorem dX43_call_231 : decode cX43_call 231 = .ok (.getfield 9, 3) := dk_180 0 9 (dk_at dksX43_call_8 0 rfl rfl)
theorem dX43_call_234 : decode cX43_call 234 = .ok (.iload_n 3, 1) := dk_29 (dk_at dksX43_call_8 3 rfl rfl)
theorem dX43_call_235 : decode cX43_call 235 = .ok (.iload 4, 2) := dk_21 4 (dk_at dksX43_call_8 4 rfl rfl)
theorem dX43_call_237 : decode cX43_call 237 = .ok (.aload_n 2, 1) := dk_44 (dk_at dksX43_call_8 6 rfl rfl)
theorem dX43_call_238 : decode cX43_call 238 = .ok (.iconst 2, 1) := dk_5 (dk_at dksX43_call_8 7 rfl rfl)
theorem dX43_call_239 : decode cX43_call 239 = .ok (.laload, 1) := dk_47 (dk_at dksX43_call_8 8 rfl rfl)
theorem dX43_call_240 : decode cX43_call 240 = .ok (.l2i, 1) := dk_136 (dk_at dksX43_call_8 9 rfl rfl)
theorem dX43_call_241 : decode cX43_call 241 = .ok (.i2d, 1) := dk_135 (dk_at dksX43_call_8 10 rfl rfl)
theorem dX43_call_242 : decode cX43_call 242 = .ok (.ldc2_w 104, 3) := dk_20 0 104 (dk_at dksX43_call_8 11 rfl rfl)
theorem dX43_call_245 : decode cX43_call 245 = .ok (.ddiv, 1) := dk_111 (dk_at dksX43_call_8 14 rfl rfl)
theorem dX43_call_246 : decode cX43_call 246 = .ok (.invokevirtual 106, 3) := dk_182 0 106 (dk_at dksX43_call_8 15 rfl rfl)
theorem dX43_call_249 : decode cX43_call 249 = .ok (.i2l, 1) := dk_133 (dk_at dksX43_call_8 18 rfl rfl)
theorem dX43_call_250 : decode cX43_call 250 = .ok (.lreturn, 1) := dk_173 (dk_at dksX43_call_8 19 rfl rfl)
theorem dX43_call_251 : decode cX43_call 251 = .ok (.aload_n 0, 1) := dk_42 (dk_at dksX43_call_8 20 rfl rfl)
theorem dX43_call_252 : decode cX43_call 252 = .ok (.getfield 9, 3) := dk_180 0 9 (dk_at dksX43_call_8 21 rfl rfl)
theorem dX43_call_255 : decode cX43_call 255 = .ok (.iload_n 3, 1) := dk_29 (dk_at dksX43_call_9 0 rfl rfl)
theorem dX43_call_256 : decode cX43_call 256 = .ok (.iload 4, 2) := dk_21 4 (dk_at dksX43_call_9 1 rfl rfl)
theorem dX43_call_258 : decode cX43_call 258 = .ok (.invokevirtual 109, 3) := dk_182 0 109 (dk_at dksX43_call_9 3 rfl rfl)
theorem dX43_call_261 : decode cX43_call 261 = .ok (.i2l, 1) := dk_133 (dk_at dksX43_call_9 6 rfl rfl)
theorem dX43_call_262 : decode cX43_call 262 = .ok (.lreturn, 1) := dk_173 (dk_at dksX43_call_9 7 rfl rfl)
theorem dX43_call_263 : decode cX43_call 263 = .ok (.aload_n 0, 1) := dk_42 (dk_at dksX43_call_9 8 rfl rfl)
theorem dX43_call_264 : decode cX43_call 264 = .ok (.getfield 9, 3) := dk_180 0 9 (dk_at dksX43_call_9 9 rfl rfl)
theorem dX43_call_267 : decode cX43_call 267 = .ok (.iload_n 3, 1) := dk_29 (dk_at dksX43_call_9 12 rfl rfl)
theorem dX43_call_268 : decode cX43_call 268 = .ok (.iload 4, 2) := dk_21 4 (dk_at dksX43_call_9 13 rfl rfl)
theorem dX43_call_270 : decode cX43_call 270 = .ok (.invokevirtual 111, 3) := dk_182 0 111 (dk_at dksX43_call_9 15 rfl rfl)
theorem dX43_call_273 : decode cX43_call 273 = .ok (.invokestatic 75, 3) := dk_184 0 75 (dk_at dksX43_call_9 18 rfl rfl)
theorem dX43_call_276 : decode cX43_call 276 = .ok (.lreturn, 1) := dk_173 (dk_at dksX43_call_9 21 rfl rfl)
theorem dX43_call_277 : decode cX43_call 277 = .ok (.aload_n 0, 1) := dk_42 (dk_at dksX43_call_9 22 rfl rfl)
theorem dX43_call_278 : decode cX43_call 278 = .ok (.getfield 9, 3) := dk_180 0 9 (dk_at dksX43_call_10 0 rfl rfl)
theorem dX43_call_281 : decode cX43_call 281 = .ok (.iload_n 3, 1) := dk_29 (dk_at dksX43_call_10 3 rfl rfl)
theorem dX43_call_282 : decode cX43_call 282 = .ok (.iload 4, 2) := dk_21 4 (dk_at dksX43_call_10 4 rfl rfl)
theorem dX43_call_284 : decode cX43_call 284 = .ok (.invokevirtual 114, 3) := dk_182 0 114 (dk_at dksX43_call_10 6 rfl rfl)
theorem dX43_call_287 : decode cX43_call 287 = .ok (.invokestatic 75, 3) := dk_184 0 75 (dk_at dksX43_call_10 9 rfl rfl)
theorem dX43_call_290 : decode cX43_call 290 = .ok (.lreturn, 1) := dk_173 (dk_at dksX43_call_10 12 rfl rfl)
theorem dX43_call_291 : decode cX43_call 291 = .ok (.aload_n 0, 1) := dk_42 (dk_at dksX43_call_10 13 rfl rfl)
theorem dX43_call_292 : decode cX43_call 292 = .ok (.getfield 9, 3) := dk_180 0 9 (dk_at dksX43_call_10 14 rfl rfl)
theorem dX43_call_295 : decode cX43_call 295 = .ok (.iload_n 3, 1) := dk_29 (dk_at dksX43_call_10 17 rfl rfl)
theorem dX43_call_296 : decode cX43_call 296 = .ok (.invokevirtual 116, 3) := dk_182 0 116 (dk_at dksX43_call_10 18 rfl rfl)
theorem dX43_call_299 : decode cX43_call 299 = .ok (.i2l, 1) := dk_133 (dk_at dksX43_call_10 21 rfl rfl)
theorem dX43_call_300 : decode cX43_call 300 = .ok (.lreturn, 1) := dk_173 (dk_at dksX43_call_10 22 rfl rfl)
theorem dX43_call_301 : decode cX43_call 301 = .ok (.aload_n 0, 1) := dk_42 (dk_at dksX43_call_10 23 rfl rfl)
theorem dX43_call_302 : decode cX43_call 302 = .ok (.getfield 9, 3) := dk_180 0 9 (dk_at dksX43_call_11 0 rfl rfl)
theorem dX43_call_305 : decode cX43_call 305 = .ok (.iload_n 3, 1) := dk_29 (dk_at dksX43_call_11 3 rfl rfl)
theorem dX43_call_306 : decode cX43_call 306 = .ok (.iload 4, 2) := dk_21 4 (dk_at dksX43_call_11 4 rfl rfl)
theorem dX43_call_308 : decode cX43_call 308 = .ok (.invokevirtual 118, 3) := dk_182 0 118 (dk_at dksX43_call_11 6 rfl rfl)
theorem dX43_call_311 : decode cX43_call 311 = .ok (.i2l, 1) := dk_133 (dk_at dksX43_call_11 9 rfl rfl)
theorem dX43_call_312 : decode cX43_call 312 = .ok (.lreturn, 1) := dk_173 (dk_at dksX43_call_11 10 rfl rfl)
theorem dX43_call_313 : decode cX43_call 313 = .ok (.aload_n 0, 1) := dk_42 (dk_at dksX43_call_11 11 rfl rfl)
theorem dX43_call_314 : decode cX43_call 314 = .ok (.getfield 9, 3) := dk_180 0 9 (dk_at dksX43_call_11 12 rfl rfl)
theorem dX43_call_317 : decode cX43_call 317 = .ok (.iload_n 3, 1) := dk_29 (dk_at dksX43_call_11 15 rfl rfl)
theorem dX43_call_318 : decode cX43_call 318 = .ok (.aload_n 2, 1) := dk_44 (dk_at dksX43_call_11 16 rfl rfl)
theorem dX43_call_319 : decode cX43_call 319 = .ok (.iconst 1, 1) := dk_4 (dk_at dksX43_call_11 17 rfl rfl)
theorem dX43_call_320 : decode cX43_call 320 = .ok (.laload, 1) := dk_47 (dk_at dksX43_call_11 18 rfl rfl)
theorem dX43_call_321 : decode cX43_call 321 = .ok (.invokevirtual 120, 3) := dk_182 0 120 (dk_at dksX43_call_11 19 rfl rfl)
theorem dX43_call_324 : decode cX43_call 324 = .ok (.i2l, 1) := dk_133 (dk_at dksX43_call_11 22 rfl rfl)
theorem dX43_call_325 : decode cX43_call 325 = .ok (.lreturn, 1) := dk_173 (dk_at dksX43_call_11 23 rfl rfl)
theorem dX43_call_326 : decode cX43_call 326 = .ok (.aload_n 0, 1) := dk_42 (dk_at dksX43_call_12 0 rfl rfl)
theorem dX43_call_327 : decode cX43_call 327 = .ok (.getfield 9, 3) := dk_180 0 9 (dk_at dksX43_call_12 1 rfl rfl)
theorem dX43_call_330 : decode cX43_call 330 = .ok (.invokevirtual 123, 3) := dk_182 0 123 (dk_at dksX43_call_12 4 rfl rfl)
theorem dX43_call_333 : decode cX43_call 333 = .ok (.invokestatic 75, 3) := dk_184 0 75 (dk_at dksX43_call_12 7 rfl rfl)
theorem dX43_call_336 : decode cX43_call 336 = .ok (.lreturn, 1) := dk_173 (dk_at dksX43_call_12 10 rfl rfl)
theorem q449 : (Jvm.Cond.initialized "WasteHouse$StoreRoom") ∈ lw_all := lw_g (lw_at lw_m1 57 rfl) rfl
theorem q2016 : (Jvm.Cond.selects "WasteHouse$StoreRoom" ({ cls := "java/lang/Object", name := "getClass", desc := "()Ljava/lang/Class;" } : Jvm.MethodName) ({ cls := "java/lang/Object", name := "getClass", desc := "()Ljava/lang/Class;" } : Jvm.MethodName)) ∈ lw_all := lw_g (lw_at lw_m7 184 rfl) rfl
theorem q2313 : (Jvm.Cond.instantiable "WasteHouse$StoreRoom" (4 : Nat)) ∈ lw_all := lw_g (lw_at lw_m9 1 rfl) rfl
theorem q2315 : (Jvm.Cond.instanceMethod ({ cls := "WasteHouse$StoreRoom", name := "<init>", desc := "(LWasteHouse$BarredStores;)V" } : Jvm.MethodName)) ∈ lw_all := lw_g (lw_at lw_m9 3 rfl) rfl
theorem q2316 : (Jvm.Cond.code ({ cls := "WasteHouse$StoreRoom", name := "<init>", desc := "(LWasteHouse$BarredStores;)V" } : Jvm.MethodName) prog_47_method_1_code (2 : Nat) (Option.none : Option Jvm.ClassFile.FieldType)) ∈ lw_all := lw_g (lw_at lw_m9 4 rfl) rfl
theorem q2317 : (Jvm.Cond.stringRef "WasteHouse$StoreRoom" (1 : Nat) "store") ∈ lw_tbl := lw_at lw_m9 5 rfl
theorem q2318 : (Jvm.Cond.methodLink "WasteHouse$StoreRoom" (3 : Nat) ({ cls := "WasteHouse$Room", name := "<init>", desc := "(Ljava/lang/String;)V" } : Jvm.MethodName)) ∈ lw_all := lw_g (lw_at lw_m9 6 rfl) rfl
theorem q2319 : (Jvm.Cond.stringRef "WasteHouse$StoreRoom" (14 : Nat) "bar") ∈ lw_tbl := lw_at lw_m9 7 rfl
theorem q2320 : (Jvm.Cond.stringRef "WasteHouse$StoreRoom" (16 : Nat) "iii") ∈ lw_tbl := lw_at lw_m9 8 rfl
theorem q2321 : (Jvm.Cond.methodLink "WasteHouse$StoreRoom" (18 : Nat) ({ cls := "WasteHouse$StoreRoom", name := "add", desc := "(Ljava/lang/String;Ljava/lang/String;)V" } : Jvm.MethodName)) ∈ lw_all := lw_g (lw_at lw_m9 9 rfl) rfl
theorem q2322 : (Jvm.Cond.sameMethod "WasteHouse$StoreRoom" "WasteHouse$Room" "add" "(Ljava/lang/String;Ljava/lang/String;)V") ∈ lw_all := lw_g (lw_at lw_m9 10 rfl) rfl
theorem q2323 : (Jvm.Cond.selects "WasteHouse$StoreRoom" ({ cls := "WasteHouse$StoreRoom", name := "add", desc := "(Ljava/lang/String;Ljava/lang/String;)V" } : Jvm.MethodName) ({ cls := "WasteHouse$Room", name := "add", desc := "(Ljava/lang/String;Ljava/lang/String;)V" } : Jvm.MethodName)) ∈ lw_all := lw_g (lw_at lw_m9 11 rfl) rfl
theorem q2324 : (Jvm.Cond.stringRef "WasteHouse$StoreRoom" (22 : Nat) "most") ∈ lw_tbl := lw_at lw_m9 12 rfl
theorem q2325 : (Jvm.Cond.stringRef "WasteHouse$StoreRoom" (24 : Nat) "il") ∈ lw_tbl := lw_at lw_m9 13 rfl
theorem q2326 : (Jvm.Cond.stringRef "WasteHouse$StoreRoom" (26 : Nat) "place") ∈ lw_tbl := lw_at lw_m9 14 rfl
theorem q2327 : (Jvm.Cond.stringRef "WasteHouse$StoreRoom" (28 : Nat) "lll") ∈ lw_tbl := lw_at lw_m9 15 rfl
theorem q2328 : (Jvm.Cond.stringRef "WasteHouse$StoreRoom" (30 : Nat) "load") ∈ lw_tbl := lw_at lw_m9 16 rfl
theorem q2329 : (Jvm.Cond.stringRef "WasteHouse$StoreRoom" (32 : Nat) "ill") ∈ lw_tbl := lw_at lw_m9 17 rfl
theorem q2330 : (Jvm.Cond.stringRef "WasteHouse$StoreRoom" (34 : Nat) "put") ∈ lw_tbl := lw_at lw_m9 18 rfl
theorem q2331 : (Jvm.Cond.stringRef "WasteHouse$StoreRoom" (36 : Nat) "ii") ∈ lw_tbl := lw_at lw_m9 19 rfl
theorem q2332 : (Jvm.Cond.stringRef "WasteHouse$StoreRoom" (38 : Nat) "of") ∈ lw_tbl := lw_at lw_m9 20 rfl
theorem q2333 : (Jvm.Cond.stringRef "WasteHouse$StoreRoom" (40 : Nat) "i") ∈ lw_tbl := lw_at lw_m9 21 rfl
theorem q2334 : (Jvm.Cond.stringRef "WasteHouse$StoreRoom" (42 : Nat) "plan") ∈ lw_tbl := lw_at lw_m9 22 rfl
theorem q2335 : (Jvm.Cond.stringRef "WasteHouse$StoreRoom" (44 : Nat) "moves") ∈ lw_tbl := lw_at lw_m9 23 rfl
theorem q2336 : (Jvm.Cond.stringRef "WasteHouse$StoreRoom" (46 : Nat) "step") ∈ lw_tbl := lw_at lw_m9 24 rfl
theorem q2337 : (Jvm.Cond.stringRef "WasteHouse$StoreRoom" (48 : Nat) "basin") ∈ lw_tbl := lw_at lw_m9 25 rfl
theorem q2338 : (Jvm.Cond.stringRef "WasteHouse$StoreRoom" (50 : Nat) "trial") ∈ lw_tbl := lw_at lw_m9 26 rfl
theorem q2339 : (Jvm.Cond.stringRef "WasteHouse$StoreRoom" (52 : Nat) "iie") ∈ lw_tbl := lw_at lw_m9 27 rfl
theorem q2340 : (Jvm.Cond.stringRef "WasteHouse$StoreRoom" (54 : Nat) "mix") ∈ lw_tbl := lw_at lw_m9 28 rfl
theorem q2341 : (Jvm.Cond.stringRef "WasteHouse$StoreRoom" (56 : Nat) "key") ∈ lw_tbl := lw_at lw_m9 29 rfl
theorem q2342 : (Jvm.Cond.stringRef "WasteHouse$StoreRoom" (58 : Nat) "open") ∈ lw_tbl := lw_at lw_m9 30 rfl
theorem q2343 : (Jvm.Cond.stringRef "WasteHouse$StoreRoom" (60 : Nat) "first") ∈ lw_tbl := lw_at lw_m9 31 rfl
theorem q2344 : (Jvm.Cond.stringRef "WasteHouse$StoreRoom" (62 : Nat) "drill") ∈ lw_tbl := lw_at lw_m9 32 rfl
theorem q2345 : (Jvm.Cond.stringRef "WasteHouse$StoreRoom" (64 : Nat) "inspect") ∈ lw_tbl := lw_at lw_m9 33 rfl
theorem q2346 : (Jvm.Cond.stringRef "WasteHouse$StoreRoom" (66 : Nat) "kept") ∈ lw_tbl := lw_at lw_m9 34 rfl
theorem q2347 : (Jvm.Cond.stringRef "WasteHouse$StoreRoom" (68 : Nat) "") ∈ lw_tbl := lw_at lw_m9 35 rfl
theorem q2348 : (Jvm.Cond.fieldLink "WasteHouse$StoreRoom" (9 : Nat) "WasteHouse$StoreRoom" "store" "LWasteHouse$BarredStores;") ∈ lw_all := lw_g (lw_at lw_m9 36 rfl) rfl
theorem q2349 : (Jvm.Cond.laysFinal "WasteHouse$StoreRoom" "WasteHouse$StoreRoom" "store" "LWasteHouse$BarredStores;") ∈ lw_all := lw_g (lw_at lw_m9 37 rfl) rfl
theorem q2350 : (Jvm.Cond.soleField "WasteHouse$StoreRoom" "store") ∈ lw_all := lw_g (lw_at lw_m9 38 rfl) rfl
theorem q2351 : (Jvm.Cond.laysFinal "WasteHouse$StoreRoom" "WasteHouse$Room" "name" "Ljava/lang/String;") ∈ lw_all := lw_g (lw_at lw_m9 39 rfl) rfl
theorem q2352 : (Jvm.Cond.laysFinal "WasteHouse$StoreRoom" "WasteHouse$Room" "words" "Ljava/util/ArrayList;") ∈ lw_all := lw_g (lw_at lw_m9 40 rfl) rfl
theorem q2353 : (Jvm.Cond.laysFinal "WasteHouse$StoreRoom" "WasteHouse$Room" "needs" "Ljava/util/ArrayList;") ∈ lw_all := lw_g (lw_at lw_m9 41 rfl) rfl
theorem q2354 : (Jvm.Cond.superclass "WasteHouse$StoreRoom" "WasteHouse$Room") ∈ lw_all := lw_g (lw_at lw_m9 42 rfl) rfl
theorem q3065 : (Jvm.Cond.selects "WasteHouse$StoreRoom" ({ cls := "WasteHouse$Room", name := "find", desc := "(Ljava/lang/String;)I" } : Jvm.MethodName) ({ cls := "WasteHouse$Room", name := "find", desc := "(Ljava/lang/String;)I" } : Jvm.MethodName)) ∈ lw_all := lw_g (lw_at lw_m12 33 rfl) rfl
theorem q3126 : (Jvm.Cond.selects "WasteHouse$StoreRoom" ({ cls := "java/lang/Object", name := "equals", desc := "(Ljava/lang/Object;)Z" } : Jvm.MethodName) ({ cls := "java/lang/Object", name := "equals", desc := "(Ljava/lang/Object;)Z" } : Jvm.MethodName)) ∈ lw_all := lw_g (lw_at lw_m12 94 rfl) rfl
theorem q3179 : (Jvm.Cond.selects "WasteHouse$StoreRoom" ({ cls := "WasteHouse$Room", name := "need", desc := "(I)Ljava/lang/String;" } : Jvm.MethodName) ({ cls := "WasteHouse$Room", name := "need", desc := "(I)Ljava/lang/String;" } : Jvm.MethodName)) ∈ lw_all := lw_g (lw_at lw_m12 147 rfl) rfl
theorem q3644 : (Jvm.Cond.selects "WasteHouse$StoreRoom" ({ cls := "java/lang/Object", name := "hashCode", desc := "()I" } : Jvm.MethodName) ({ cls := "java/lang/Object", name := "hashCode", desc := "()I" } : Jvm.MethodName)) ∈ lw_all := lw_g (lw_at lw_m14 132 rfl) rfl
theorem q6341 : (Jvm.Cond.selects "WasteHouse$StoreRoom" ({ cls := "WasteHouse$Room", name := "call", desc := "(I[J)J" } : Jvm.MethodName) ({ cls := "WasteHouse$StoreRoom", name := "call", desc := "(I[J)J" } : Jvm.MethodName)) ∈ lw_all := lw_g (lw_at lw_m25 189 rfl) rfl
theorem q6342 : (Jvm.Cond.instanceMethod ({ cls := "WasteHouse$StoreRoom", name := "call", desc := "(I[J)J" } : Jvm.MethodName)) ∈ lw_all := lw_g (lw_at lw_m25 190 rfl) rfl
theorem q6343 : (Jvm.Cond.code ({ cls := "WasteHouse$StoreRoom", name := "call", desc := "(I[J)J" } : Jvm.MethodName) prog_47_method_2_code (5 : Nat) (Option.some Jvm.ClassFile.FieldType.long)) ∈ lw_all := lw_g (lw_at lw_m25 191 rfl) rfl
theorem q6344 : (Jvm.Cond.methodLink "WasteHouse$StoreRoom" (70 : Nat) ({ cls := "WasteHouse$BarredStores", name := "bar", desc := "(III)Z" } : Jvm.MethodName)) ∈ lw_all := lw_g (lw_at lw_m25 192 rfl) rfl
theorem q6349 : (Jvm.Cond.methodLink "WasteHouse$StoreRoom" (75 : Nat) ({ cls := "WasteHouse$StoreRoom", name := "bit", desc := "(Z)J" } : Jvm.MethodName)) ∈ lw_all := lw_g (lw_at lw_m25 197 rfl) rfl
theorem q6350 : (Jvm.Cond.sameMethod "WasteHouse$StoreRoom" "WasteHouse$Room" "bit" "(Z)J") ∈ lw_all := lw_g (lw_at lw_m25 198 rfl) rfl
theorem q6351 : (Jvm.Cond.methodLink "WasteHouse$StoreRoom" (79 : Nat) ({ cls := "WasteHouse$BarredStores", name := "most", desc := "(IJ)Z" } : Jvm.MethodName)) ∈ lw_all := lw_g (lw_at lw_m25 199 rfl) rfl
theorem q6356 : (Jvm.Cond.methodLink "WasteHouse$StoreRoom" (82 : Nat) ({ cls := "WasteHouse$BarredStores", name := "place", desc := "(JJJ)I" } : Jvm.MethodName)) ∈ lw_all := lw_g (lw_at lw_m25 204 rfl) rfl
theorem q6363 : (Jvm.Cond.methodLink "WasteHouse$StoreRoom" (85 : Nat) ({ cls := "WasteHouse$BarredStores", name := "load", desc := "(IJJ)I" } : Jvm.MethodName)) ∈ lw_all := lw_g (lw_at lw_m25 211 rfl) rfl
theorem q6364 : (Jvm.Cond.methodLink "WasteHouse$StoreRoom" (88 : Nat) ({ cls := "WasteHouse$BarredStores", name := "put", desc := "(II)I" } : Jvm.MethodName)) ∈ lw_all := lw_g (lw_at lw_m25 212 rfl) rfl
theorem q6365 : (Jvm.Cond.methodLink "WasteHouse$StoreRoom" (91 : Nat) ({ cls := "WasteHouse$BarredStores", name := "placeOf", desc := "(I)I" } : Jvm.MethodName)) ∈ lw_all := lw_g (lw_at lw_m25 213 rfl) rfl
theorem q6369 : (Jvm.Cond.methodLink "WasteHouse$StoreRoom" (95 : Nat) ({ cls := "WasteHouse$BarredStores", name := "plan", desc := "(I)I" } : Jvm.MethodName)) ∈ lw_all := lw_g (lw_at lw_m25 217 rfl) rfl
theorem q6381 : (Jvm.Cond.methodLink "WasteHouse$StoreRoom" (97 : Nat) ({ cls := "WasteHouse$BarredStores", name := "moves", desc := "(II)I" } : Jvm.MethodName)) ∈ lw_all := lw_g (lw_at lw_m25 229 rfl) rfl
theorem q6409 : (Jvm.Cond.methodLink "WasteHouse$StoreRoom" (99 : Nat) ({ cls := "WasteHouse$BarredStores", name := "step", desc := "(II)I" } : Jvm.MethodName)) ∈ lw_all := lw_g (lw_at lw_m26 17 rfl) rfl
theorem q6413 : (Jvm.Cond.methodLink "WasteHouse$StoreRoom" (101 : Nat) ({ cls := "WasteHouse$BarredStores", name := "basin", desc := "(II)J" } : Jvm.MethodName)) ∈ lw_all := lw_g (lw_at lw_m26 21 rfl) rfl
theorem q6418 : (Jvm.Cond.constantDouble "WasteHouse$StoreRoom" (104 : Nat) (4620693217682128896 : UInt64)) ∈ lw_all := lw_g (lw_at lw_m26 26 rfl) rfl
theorem q6419 : (Jvm.Cond.methodLink "WasteHouse$StoreRoom" (106 : Nat) ({ cls := "WasteHouse$BarredStores", name := "trial", desc := "(IID)I" } : Jvm.MethodName)) ∈ lw_all := lw_g (lw_at lw_m26 27 rfl) rfl
theorem q6430 : (Jvm.Cond.methodLink "WasteHouse$StoreRoom" (109 : Nat) ({ cls := "WasteHouse$BarredStores", name := "mix", desc := "(II)I" } : Jvm.MethodName)) ∈ lw_all := lw_g (lw_at lw_m26 38 rfl) rfl
theorem q6438 : (Jvm.Cond.methodLink "WasteHouse$StoreRoom" (111 : Nat) ({ cls := "WasteHouse$BarredStores", name := "key", desc := "(II)Z" } : Jvm.MethodName)) ∈ lw_all := lw_g (lw_at lw_m26 46 rfl) rfl
theorem q6449 : (Jvm.Cond.methodLink "WasteHouse$StoreRoom" (114 : Nat) ({ cls := "WasteHouse$BarredStores", name := "open", desc := "(II)Z" } : Jvm.MethodName)) ∈ lw_all := lw_g (lw_at lw_m26 57 rfl) rfl
theorem q6450 : (Jvm.Cond.methodLink "WasteHouse$StoreRoom" (116 : Nat) ({ cls := "WasteHouse$BarredStores", name := "first", desc := "(I)I" } : Jvm.MethodName)) ∈ lw_all := lw_g (lw_at lw_m26 58 rfl) rfl
theorem q6454 : (Jvm.Cond.methodLink "WasteHouse$StoreRoom" (118 : Nat) ({ cls := "WasteHouse$BarredStores", name := "drill", desc := "(II)I" } : Jvm.MethodName)) ∈ lw_all := lw_g (lw_at lw_m26 62 rfl) rfl
theorem q6458 : (Jvm.Cond.methodLink "WasteHouse$StoreRoom" (120 : Nat) ({ cls := "WasteHouse$BarredStores", name := "inspect", desc := "(IJ)I" } : Jvm.MethodName)) ∈ lw_all := lw_g (lw_at lw_m26 66 rfl) rfl
theorem q6462 : (Jvm.Cond.methodLink "WasteHouse$StoreRoom" (123 : Nat) ({ cls := "WasteHouse$BarredStores", name := "kept", desc := "()Z" } : Jvm.MethodName)) ∈ lw_all := lw_g (lw_at lw_m26 70 rfl) rfl
theorem q9616 : (Jvm.Cond.castable "WasteHouse$StoreRoom" "WasteHouse$Room") ∈ lw_tbl := lw_at lw_m39 104 rfl
theorem q9666 : (Jvm.Cond.castable "WasteHouse$StoreRoom" "java/lang/Object") ∈ lw_tbl := lw_at lw_m39 154 rfl
theorem in_X43 : ∀ w ∈ wsX430, w ∈ lw_all := lw_in wsX430 [2351, 2352, 2353, 2349] (by decide +kernel) (by decide +kernel)
