/-! WasteHouse$RoundRoom -/
set_option maxRecDepth 100000
def RX42 : String := "WasteHouse$RoundRoom"
def TX42 : u_T := fun k => match k with
  | 0 => ("WasteHouse$Room", "name", "Ljava/lang/String;", true)
  | 1 => ("WasteHouse$Room", "words", "Ljava/util/ArrayList;", true)
  | 2 => ("WasteHouse$Room", "needs", "Ljava/util/ArrayList;", true)
  | _ => ("WasteHouse$RoundRoom", "rounds", "LWasteHouse$RoundColumns;", true)
def tyX42 : Nat → FieldType := fun k => match k with
  | 0 => .object "java/lang/String"
  | 1 => .object "java/util/ArrayList"
  | 2 => .object "java/util/ArrayList"
  | _ => .object "WasteHouse$RoundColumns"
abbrev wsX420 : List Cond := u_ws RX42 TX42 4
theorem nmX42 : ∀ a, a < 4 → ∀ b, b < 4 → a ≠ b → (TX42 a).2.1 ≠ (TX42 b).2.1 := by decide +kernel
theorem tyX42_ok : ∀ k, k < 4 → parseFieldDescriptor (TX42 k).2.2.1 = some (tyX42 k) := by decide +kernel
abbrev cX42_init : ByteArray := prog_40_method_1_code
def yX42_init : MethodName := ⟨RX42, "<init>", "(LWasteHouse$RoundColumns;)V"⟩
def dkwX42_init_6 : List UInt8 := [182, 0, 18, 42, 18, 66, 18, 36, 182, 0, 18, 177]
abbrev dktX42_init_6 : List UInt8 := dkwX42_init_6 ++ []
def dkwX42_init_5 : List UInt8 := [182, 0, 18, 42, 18, 60, 18, 36, 182, 0, 18, 42, 18, 62, 18, 48, 182, 0, 18, 42, 18, 64, 18, 36]
abbrev dktX42_init_5 : List UInt8 := dkwX42_init_5 ++ dktX42_init_6
def dkwX42_init_4 : List UInt8 := [182, 0, 18, 42, 18, 54, 18, 48, 182, 0, 18, 42, 18, 56, 18, 48, 182, 0, 18, 42, 18, 58, 18, 40]
abbrev dktX42_init_4 : List UInt8 := dkwX42_init_4 ++ dktX42_init_5
def dkwX42_init_3 : List UInt8 := [182, 0, 18, 42, 18, 46, 18, 48, 182, 0, 18, 42, 18, 50, 18, 40, 182, 0, 18, 42, 18, 52, 18, 48]
abbrev dktX42_init_3 : List UInt8 := dkwX42_init_3 ++ dktX42_init_4
def dkwX42_init_2 : List UInt8 := [182, 0, 18, 42, 18, 38, 18, 40, 182, 0, 18, 42, 18, 42, 18, 36, 182, 0, 18, 42, 18, 44, 18, 36]
abbrev dktX42_init_2 : List UInt8 := dkwX42_init_2 ++ dktX42_init_3
def dkwX42_init_1 : List UInt8 := [182, 0, 18, 42, 18, 26, 18, 28, 182, 0, 18, 42, 18, 30, 18, 32, 182, 0, 18, 42, 18, 34, 18, 36]
abbrev dktX42_init_1 : List UInt8 := dkwX42_init_1 ++ dktX42_init_2
def dkwX42_init_0 : List UInt8 := [42, 18, 1, 183, 0, 3, 42, 43, 181, 0, 9, 42, 18, 14, 18, 16, 182, 0, 18, 42, 18, 22, 18, 24]
abbrev dktX42_init_0 : List UInt8 := dkwX42_init_0 ++ dktX42_init_1
theorem dksX42_init_0 : cX42_init.data.toList.drop 0 = dktX42_init_0 := by decide +kernel
theorem dksX42_init_1 : cX42_init.data.toList.drop 24 = dktX42_init_1 := dk_seg dksX42_init_0 24 rfl rfl
theorem dksX42_init_2 : cX42_init.data.toList.drop 48 = dktX42_init_2 := dk_seg dksX42_init_1 24 rfl rfl
theorem dksX42_init_3 : cX42_init.data.toList.drop 72 = dktX42_init_3 := dk_seg dksX42_init_2 24 rfl rfl
theorem dksX42_init_4 : cX42_init.data.toList.drop 96 = dktX42_init_4 := dk_seg dksX42_init_3 24 rfl rfl
theorem dksX42_init_5 : cX42_init.data.toList.drop 120 = dktX42_init_5 := dk_seg dksX42_init_4 24 rfl rfl
theorem dksX42_init_6 : cX42_init.data.toList.drop 144 = dktX42_init_6 := dk_seg dksX42_init_5 24 rfl rfl
theorem dX42_init_0 : decode cX42_init 0 = .ok (.aload_n 0, 1) := dk_42 (dk_at dksX42_init_0 0 rfl rfl)
theorem dX42_init_1 : decode cX42_init 1 = .ok (.ldc 1, 2) := dk_18 1 (dk_at dksX42_init_0 1 rfl rfl)
theorem dX42_init_3 : decode cX42_init 3 = .ok (.invokespecial 3, 3) := dk_183 0 3 (dk_at dksX42_init_0 3 rfl rfl)
theorem dX42_init_6 : decode cX42_init 6 = .ok (.aload_n 0, 1) := dk_42 (dk_at dksX42_init_0 6 rfl rfl)
theorem dX42_init_7 : decode cX42_init 7 = .ok (.aload_n 1, 1) := dk_43 (dk_at dksX42_init_0 7 rfl rfl)
theorem dX42_init_8 : decode cX42_init 8 = .ok (.putfield 9, 3) := dk_181 0 9 (dk_at dksX42_init_0 8 rfl rfl)
theorem dX42_init_11 : decode cX42_init 11 = .ok (.aload_n 0, 1) := dk_42 (dk_at dksX42_init_0 11 rfl rfl)
theorem dX42_init_12 : decode cX42_init 12 = .ok (.ldc 14, 2) := dk_18 14 (dk_at dksX42_init_0 12 rfl rfl)
theorem dX42_init_14 : decode cX42_init 14 = .ok (.ldc 16, 2) := dk_18 16 (dk_at dksX42_init_0 14 rfl rfl)
theorem dX42_init_16 : decode cX42_init 16 = .ok (.invokevirtual 18, 3) := dk_182 0 18 (dk_at dksX42_init_0 16 rfl rfl)
theorem dX42_init_19 : decode cX42_init 19 = .ok (.aload_n 0, 1) := dk_42 (dk_at dksX42_init_0 19 rfl rfl)
theorem dX42_init_20 : decode cX42_init 20 = .ok (.ldc 22, 2) := dk_18 22 (dk_at dksX42_init_0 20 rfl rfl)
theorem dX42_init_22 : decode cX42_init 22 = .ok (.ldc 24, 2) := dk_18 24 (dk_at dksX42_init_0 22 rfl rfl)
theorem dX42_init_24 : decode cX42_init 24 = .ok (.invokevirtual 18, 3) := dk_182 0 18 (dk_at dksX42_init_1 0 rfl rfl)
theorem dX42_init_27 : decode cX42_init 27 = .ok (.aload_n 0, 1) := dk_42 (dk_at dksX42_init_1 3 rfl rfl)
theorem dX42_init_28 : decode cX42_init 28 = .ok (.ldc 26, 2) := dk_18 26 (dk_at dksX42_init_1 4 rfl rfl)
theorem dX42_init_30 : decode cX42_init 30 = .ok (.ldc 28, 2) := dk_18 28 (dk_at dksX42_init_1 6 rfl rfl)
theorem dX42_init_32 : decode cX42_init 32 = .ok (.invokevirtual 18, 3) := dk_182 0 18 (dk_at dksX42_init_1 8 rfl rfl)
theorem dX42_init_35 : decode cX42_init 35 = .ok (.aload_n 0, 1) := dk_42 (dk_at dksX42_init_1 11 rfl rfl)
theorem dX42_init_36 : decode cX42_init 36 = .ok (.ldc 30, 2) := dk_18 30 (dk_at dksX42_init_1 12 rfl rfl)
theorem dX42_init_38 : decode cX42_init 38 = .ok (.ldc 32, 2) := dk_18 32 (dk_at dksX42_init_1 14 rfl rfl)
theorem dX42_init_40 : decode cX42_init 40 = .ok (.invokevirtual 18, 3) := dk_182 0 18 (dk_at dksX42_init_1 16 rfl rfl)
theorem dX42_init_43 : decode cX42_init 43 = .ok (.aload_n 0, 1) := dk_42 (dk_at dksX42_init_1 19 rfl rfl)
theorem dX42_init_44 : decode cX42_init 44 = .ok (.ldc 34, 2) := dk_18 34 (dk_at dksX42_init_1 20 rfl rfl)
theorem dX42_init_46 : decode cX42_init 46 = .ok (.ldc 36, 2) := dk_18 36 (dk_at dksX42_init_1 22 rfl rfl)
theorem dX42_init_48 : decode cX42_init 48 = .ok (.invokevirtual 18, 3) := dk_182 0 18 (dk_at dksX42_init_2 0 rfl rfl)
theorem dX42_init_51 : decode cX42_init 51 = .ok (.aload_n 0, 1) := dk_42 (dk_at dksX42_init_2 3 rfl rfl)
theorem dX42_init_52 : decode cX42_init 52 = .ok (.ldc 38, 2) := dk_18 38 (dk_at dksX42_init_2 4 rfl rfl)
theorem dX42_init_54 : decode cX42_init 54 = .ok (.ldc 40, 2) := dk_18 40 (dk_at dksX42_init_2 6 rfl rfl)
theorem dX42_init_56 : decode cX42_init 56 = .ok (.invokevirtual 18, 3) := dk_182 0 18 (dk_at dksX42_init_2 8 rfl rfl)
theorem dX42_init_59 : decode cX42_init 59 = .ok (.aload_n 0, 1) := dk_42 (dk_at dksX42_init_2 11 rfl rfl)
theorem dX42_init_60 : decode cX42_init 60 = .ok (.ldc 42, 2) := dk_18 42 (dk_at dksX42_init_2 12 rfl rfl)
theorem dX42_init_62 : decode cX42_init 62 = .ok (.ldc 36, 2) := dk_18 36 (dk_at dksX42_init_2 14 rfl rfl)
theorem dX42_init_64 : decode cX42_init 64 = .ok (.invokevirtual 18, 3) := dk_182 0 18 (dk_at dksX42_init_2 16 rfl rfl)
theorem dX42_init_67 : decode cX42_init 67 = .ok (.aload_n 0, 1) := dk_42 (dk_at dksX42_init_2 19 rfl rfl)
theorem dX42_init_68 : decode cX42_init 68 = .ok (.ldc 44, 2) := dk_18 44 (dk_at dksX42_init_2 20 rfl rfl)
theorem dX42_init_70 : decode cX42_init 70 = .ok (.ldc 36, 2) := dk_18 36 (dk_at dksX42_init_2 22 rfl rfl)
theorem dX42_init_72 : decode cX42_init 72 = .ok (.invokevirtual 18, 3) := dk_182 0 18 (dk_at dksX42_init_3 0 rfl rfl)
theorem dX42_init_75 : decode cX42_init 75 = .ok (.aload_n 0, 1) := dk_42 (dk_at dksX42_init_3 3 rfl rfl)
theorem dX42_init_76 : decode cX42_init 76 = .ok (.ldc 46, 2) := dk_18 46 (dk_at dksX42_init_3 4 rfl rfl)
theorem dX42_init_78 : decode cX42_init 78 = .ok (.ldc 48, 2) := dk_18 48 (dk_at dksX42_init_3 6 rfl rfl)
theorem dX42_init_80 : decode cX42_init 80 = .ok (.invokevirtual 18, 3) := dk_182 0 18 (dk_at dksX42_init_3 8 rfl rfl)
theorem dX42_init_83 : decode cX42_init 83 = .ok (.aload_n 0, 1) := dk_42 (dk_at dksX42_init_3 11 rfl rfl)
theorem dX42_init_84 : decode cX42_init 84 = .ok (.ldc 50, 2) := dk_18 50 (dk_at dksX42_init_3 12 rfl rfl)
theorem dX42_init_86 : decode cX42_init 86 = .ok (.ldc 40, 2) := dk_18 40 (dk_at dksX42_init_3 14 rfl rfl)
theorem dX42_init_88 : decode cX42_init 88 = .ok (.invokevirtual 18, 3) := dk_182 0 18 (dk_at dksX42_init_3 16 rfl rfl)
theorem dX42_init_91 : decode cX42_init 91 = .ok (.aload_n 0, 1) := dk_42 (dk_at dksX42_init_3 19 rfl rfl)
theorem dX42_init_92 : decode cX42_init 92 = .ok (.ldc 52, 2) := dk_18 52 (dk_at dksX42_init_3 20 rfl rfl)
theorem dX42_init_94 : decode cX42_init 94 = .ok (.ldc 48, 2) := dk_18 48 (dk_at dksX42_init_3 22 rfl rfl)
theorem dX42_init_96 : decode cX42_init 96 = .ok (.invokevirtual 18, 3) := dk_182 0 18 (dk_at dksX42_init_4 0 rfl rfl)
theorem dX42_init_99 : decode cX42_init 99 = .ok (.aload_n 0, 1) := dk_42 (dk_at dksX42_init_4 3 rfl rfl)
theorem dX42_init_100 : decode cX42_init 100 = .ok (.ldc 54, 2) := dk_18 54 (dk_at dksX42_init_4 4 rfl rfl)
theorem dX42_init_102 : decode cX42_init 102 = .ok (.ldc 48, 2) := dk_18 48 (dk_at dksX42_init_4 6 rfl rfl)
theorem dX42_init_104 : decode cX42_init 104 = .ok (.invokevirtual 18, 3) := dk_182 0 18 (dk_at dksX42_init_4 8 rfl rfl)
theorem dX42_init_107 : decode cX42_init 107 = .ok (.aload_n 0, 1) := dk_42 (dk_at dksX42_init_4 11 rfl rfl)
theorem dX42_init_108 : decode cX42_init 108 = .ok (.ldc 56, 2) := dk_18 56 (dk_at dksX42_init_4 12 rfl rfl)
theorem dX42_init_110 : decode cX42_init 110 = .ok (.ldc 48, 2) := dk_18 48 (dk_at dksX42_init_4 14 rfl rfl)
theorem dX42_init_112 : decode cX42_init 112 = .ok (.invokevirtual 18, 3) := dk_182 0 18 (dk_at dksX42_init_4 16 rfl rfl)
theorem dX42_init_115 : decode cX42_init 115 = .ok (.aload_n 0, 1) := dk_42 (dk_at dksX42_init_4 19 rfl rfl)
theorem dX42_init_116 : decode cX42_init 116 = .ok (.ldc 58, 2) := dk_18 58 (dk_at dksX42_init_4 20 rfl rfl)
theorem dX42_init_118 : decode cX42_init 118 = .ok (.ldc 40, 2) := dk_18 40 (dk_at dksX42_init_4 22 rfl rfl)
theorem dX42_init_120 : decode cX42_init 120 = .ok (.invokevirtual 18, 3) := dk_182 0 18 (dk_at dksX42_init_5 0 rfl rfl)
theorem dX42_init_123 : decode cX42_init 123 = .ok (.aload_n 0, 1) := dk_42 (dk_at dksX42_init_5 3 rfl rfl)
theorem dX42_init_124 : decode cX42_init 124 = .ok (.ldc 60, 2) := dk_18 60 (dk_at dksX42_init_5 4 rfl rfl)
theorem dX42_init_126 : decode cX42_init 126 = .ok (.ldc 36, 2) := dk_18 36 (dk_at dksX42_init_5 6 rfl rfl)
theorem dX42_init_128 : decode cX42_init 128 = .ok (.invokevirtual 18, 3) := dk_182 0 18 (dk_at dksX42_init_5 8 rfl rfl)
theorem dX42_init_131 : decode cX42_init 131 = .ok (.aload_n 0, 1) := dk_42 (dk_at dksX42_init_5 11 rfl rfl)
theorem dX42_init_132 : decode cX42_init 132 = .ok (.ldc 62, 2) := dk_18 62 (dk_at dksX42_init_5 12 rfl rfl)
theorem dX42_init_134 : decode cX42_init 134 = .ok (.ldc 48, 2) := dk_18 48 (dk_at dksX42_init_5 14 rfl rfl)
theorem dX42_init_136 : decode cX42_init 136 = .ok (.invokevirtual 18, 3) := dk_182 0 18 (dk_at dksX42_init_5 16 rfl rfl)
theorem dX42_init_139 : decode cX42_init 139 = .ok (.aload_n 0, 1) := dk_42 (dk_at dksX42_init_5 19 rfl rfl)
theorem dX42_init_140 : decode cX42_init 140 = .ok (.ldc 64, 2) := dk_18 64 (dk_at dksX42_init_5 20 rfl rfl)
theorem dX42_init_142 : decode cX42_init 142 = .ok (.ldc 36, 2) := dk_18 36 (dk_at dksX42_init_5 22 rfl rfl)
theorem dX42_init_144 : decode cX42_init 144 = .ok (.invokevirtual 18, 3) := dk_182 0 18 (dk_at dksX42_init_6 0 rfl rfl)
theorem dX42_init_147 : decode cX42_init 147 = .ok (.aload_n 0, 1) := dk_42 (dk_at dksX42_init_6 3 rfl rfl)
theorem dX42_init_148 : decode cX42_init 148 = .ok (.ldc 66, 2) := dk_18 66 (dk_at dksX42_init_6 4 rfl rfl)
theorem dX42_init_150 : decode cX42_init 150 = .ok (.ldc 36, 2) := dk_18 36 (dk_at dksX42_init_6 6 rfl rfl)
theorem dX42_init_152 : decode cX42_init 152 = .ok (.invokevirtual 18, 3) := dk_182 0 18 (dk_at dksX42_init_6 8 rfl rfl)
theorem dX42_init_155 : decode cX42_init 155 = .ok (.return_, 1) := dk_177 (dk_at dksX42_init_6 11 rfl rfl)
abbrev cX42_call : ByteArray := prog_40_method_2_code
def yX42_call : MethodName := ⟨RX42, "call", "(I[J)J"⟩
def dkwX42_call_11 : List UInt8 := [182, 0, 117, 133, 173, 42, 180, 0, 9, 182, 0, 119, 184, 0, 76, 173]
abbrev dktX42_call_11 : List UInt8 := dkwX42_call_11 ++ []
def dkwX42_call_10 : List UInt8 := [180, 0, 9, 182, 0, 113, 133, 173, 42, 180, 0, 9, 29, 21, 4, 182, 0, 115, 133, 173, 42, 180, 0, 9]
abbrev dktX42_call_10 : List UInt8 := dkwX42_call_10 ++ dktX42_call_11
def dkwX42_call_9 : List UInt8 := [180, 0, 9, 29, 21, 4, 182, 0, 108, 173, 42, 180, 0, 9, 29, 182, 0, 110, 184, 0, 76, 173, 42]
abbrev dktX42_call_9 : List UInt8 := dkwX42_call_9 ++ dktX42_call_10
def dkwX42_call_8 : List UInt8 := [180, 0, 9, 29, 21, 4, 182, 0, 103, 173, 42, 180, 0, 9, 29, 21, 4, 182, 0, 106, 173, 42]
abbrev dktX42_call_8 : List UInt8 := dkwX42_call_8 ++ dktX42_call_9
def dkwX42_call_7 : List UInt8 := [42, 180, 0, 9, 29, 21, 4, 182, 0, 97, 133, 173, 42, 180, 0, 9, 29, 182, 0, 100, 173, 42]
abbrev dktX42_call_7 : List UInt8 := dkwX42_call_7 ++ dktX42_call_8
def dkwX42_call_6 : List UInt8 := [29, 182, 0, 89, 133, 173, 42, 180, 0, 9, 182, 0, 92, 133, 173, 42, 180, 0, 9, 182, 0, 95, 133, 173]
abbrev dktX42_call_6 : List UInt8 := dkwX42_call_6 ++ dktX42_call_7
def dkwX42_call_5 : List UInt8 := [167, 0, 4, 3, 182, 0, 83, 184, 0, 76, 173, 42, 180, 0, 9, 182, 0, 86, 10, 173, 42, 180, 0, 9]
abbrev dktX42_call_5 : List UInt8 := dkwX42_call_5 ++ dktX42_call_6
def dkwX42_call_4 : List UInt8 := [182, 0, 80, 184, 0, 76, 173, 42, 180, 0, 9, 29, 21, 4, 44, 5, 47, 10, 148, 154, 0, 7, 4]
abbrev dktX42_call_4 : List UInt8 := dkwX42_call_4 ++ dktX42_call_5
def dkwX42_call_3 : List UInt8 := [136, 44, 6, 47, 182, 0, 73, 184, 0, 76, 173, 42, 180, 0, 9, 44, 3, 47, 21, 4, 44, 5, 47, 136]
abbrev dktX42_call_3 : List UInt8 := dkwX42_call_3 ++ dktX42_call_4
def dkwX42_call_2 : List UInt8 := [42, 180, 0, 9, 44, 3, 47, 21, 4, 182, 0, 68, 133, 173, 42, 180, 0, 9, 29, 21, 4, 44, 5, 47]
abbrev dktX42_call_2 : List UInt8 := dkwX42_call_2 ++ dktX42_call_3
def dkwX42_call_1 : List UInt8 := [170, 0, 0, 0, 0, 0, 1, 43, 0, 0, 0, 0, 0, 0, 0, 16, 0, 0, 0, 84, 0, 0, 0, 98, 0, 0, 0, 119, 0, 0, 0, 139, 0, 0, 0, 166, 0, 0, 0, 175, 0, 0, 0, 185, 0, 0, 0, 194, 0, 0, 0, 203, 0, 0, 0, 215, 0, 0, 0, 224, 0, 0, 0, 235, 0, 0, 0, 246, 0, 0, 1, 1, 0, 0, 1, 13, 0, 0, 1, 22, 0, 0, 1, 34]
abbrev dktX42_call_1 : List UInt8 := dkwX42_call_1 ++ dktX42_call_2
def dkwX42_call_0 : List UInt8 := [44, 3, 47, 136, 62, 44, 4, 47, 136, 54, 4, 27]
abbrev dktX42_call_0 : List UInt8 := dkwX42_call_0 ++ dktX42_call_1
theorem dksX42_call_0 : cX42_call.data.toList.drop 0 = dktX42_call_0 := by decide +kernel
theorem dksX42_call_1 : cX42_call.data.toList.drop 12 = dktX42_call_1 := dk_seg dksX42_call_0 12 rfl rfl
theorem dksX42_call_2 : cX42_call.data.toList.drop 96 = dktX42_call_2 := dk_seg dksX42_call_1 84 rfl rfl
theorem dksX42_call_3 : cX42_call.data.toList.drop 120 = dktX42_call_3 := dk_seg dksX42_call_2 24 rfl rfl
theorem dksX42_call_4 : cX42_call.data.toList.drop 144 = dktX42_call_4 := dk_seg dksX42_call_3 24 rfl rfl
theorem dksX42_call_5 : cX42_call.data.toList.drop 167 = dktX42_call_5 := dk_seg dksX42_call_4 23 rfl rfl
theorem dksX42_call_6 : cX42_call.data.toList.drop 191 = dktX42_call_6 := dk_seg dksX42_call_5 24 rfl rfl
theorem dksX42_call_7 : cX42_call.data.toList.drop 215 = dktX42_call_7 := dk_seg dksX42_call_6 24 rfl rfl
theorem dksX42_call_8 : cX42_call.data.toList.drop 237 = dktX42_call_8 := dk_seg dksX42_call_7 22 rfl rfl
theorem dksX42_call_9 : cX42_call.data.toList.drop 259 = dktX42_call_9 := dk_seg dksX42_call_8 22 rfl rfl
theorem dksX42_call_10 : cX42_call.data.toList.drop 282 = dktX42_call_10 := dk_seg dksX42_call_9 23 rfl rfl
theorem dksX42_call_11 : cX42_call.data.toList.drop 306 = dktX42_call_11 := dk_seg dksX42_call_10 24 rfl rfl
theorem dX42_call_0 : decode cX42_call 0 = .ok (.aload_n 2, 1) := dk_44 (dk_at dksX42_call_0 0 rfl rfl)
theorem dX42_call_1 : decode cX42_call 1 = .ok (.iconst 0, 1) := dk_3 (dk_at dksX42_call_0 1 rfl rfl)
theorem dX42_call_2 : decode cX42_call 2 = .ok (.laload, 1) := dk_47 (dk_at dksX42_call_0 2 rfl rfl)
theorem dX42_call_3 : decode cX42_call 3 = .ok (.l2i, 1) := dk_136 (dk_at dksX42_call_0 3 rfl rfl)
theorem dX42_call_4 : decode cX42_call 4 = .ok (.istore_n 3, 1) := dk_62 (dk_at dksX42_call_0 4 rfl rfl)
theorem dX42_call_5 : decode cX42_call 5 = .ok (.aload_n 2, 1) := dk_44 (dk_at dksX42_call_0 5 rfl rfl)
theorem dX42_call_6 : decode cX42_call 6 = .ok (.iconst 1, 1) := dk_4 (dk_at dksX42_call_0 6 rfl rfl)
theorem dX42_call_7 : decode cX42_call 7 = .ok (.laload, 1) := dk_47 (dk_at dksX42_call_0 7 rfl rfl)
theorem dX42_call_8 : decode cX42_call 8 = .ok (.l2i, 1) := dk_136 (dk_at dksX42_call_0 8 rfl rfl)
theorem dX42_call_9 : decode cX42_call 9 = .ok (.istore 4, 2) := dk_54 4 (dk_at dksX42_call_0 9 rfl rfl)
theorem dX42_call_11 : decode cX42_call 11 = .ok (.iload_n 1, 1) := dk_27 (dk_at dksX42_call_0 11 rfl rfl)
theorem dX42_call_12 : decode cX42_call 12 = .ok (.tableswitch 299 0 16 #[84, 98, 119, 139, 166, 175, 185, 194, 203, 215, 224, 235, 246, 257, 269, 278, 290], 84) := by decide +kernel
theorem dX42_call_96 : decode cX42_call 96 = .ok (.aload_n 0, 1) := dk_42 (dk_at dksX42_call_2 0 rfl rfl)
theorem dX42_call_97 : decode cX42_call 97 = .ok (.getfield 9, 3) := dk_180 0 9 (dk_at dksX42_call_2 1 rfl rfl)
theorem dX42_call_100 : decode cX42_call 100 = .ok (.aload_n 2, 1) := dk_44 (dk_at dksX42_call_2 4 rfl rfl)
theorem dX42_call_101 : decode cX42_call 101 = .ok (.iconst 0, 1) := dk_3 (dk_at dksX42_call_2 5 rfl rfl)
theorem dX42_call_102 : decode cX42_call 102 = .ok (.laload, 1) := dk_47 (dk_at dksX42_call_2 6 rfl rfl)
theorem dX42_call_103 : decode cX42_call 103 = .ok (.iload 4, 2) := dk_21 4 (dk_at dksX42_call_2 7 rfl rfl)
theorem dX42_call_105 : decode cX42_call 105 = .ok (.invokevirtual 68, 3) := dk_182 0 68 (dk_at dksX42_call_2 9 rfl rfl)
theorem dX42_call_108 : decode cX42_call 108 = .ok (.i2l, 1) := dk_133 (dk_at dksX42_call_2 12 rfl rfl)
theorem dX42_call_109 : decode cX42_call 109 = .ok (.lreturn, 1) := dk_173 (dk_at dksX42_call_2 13 rfl rfl)
theorem dX42_call_110 : decode cX42_call 110 = .ok (.aload_n 0, 1) := dk_42 (dk_at dksX42_call_2 14 rfl rfl)
theorem dX42_call_111 : decode cX42_call 111 = .ok (.getfield 9, 3) := dk_180 0 9 (dk_at dksX42_call_2 15 rfl rfl)
theorem dX42_call_114 : decode cX42_call 114 = .ok (.iload_n 3, 1) := dk_29 (dk_at dksX42_call_2 18 rfl rfl)
theorem dX42_call_115 : decode cX42_call 115 = .ok (.iload 4, 2) := dk_21 4 (dk_at dksX42_call_2 19 rfl rfl)
theorem dX42_call_117 : decode cX42_call 117 = .ok (.aload_n 2, 1) := dk_44 (dk_at dksX42_call_2 21 rfl rfl)
theorem dX42_call_118 : decode cX42_call 118 = .ok (.iconst 2, 1) := dk_5 (dk_at dksX42_call_2 22 rfl rfl)
theorem dX42_call_119 : decode cX42_call 119 = .ok (.laload, 1) := dk_47 (dk_at dksX42_call_2 23 rfl rfl)
theorem dX42_call_120 : decode cX42_call 120 = .ok (.l2i, 1) := dk_136 (dk_at dksX42_call_3 0 rfl rfl)
theorem dX42_call_121 : decode cX42_call 121 = .ok (.aload_n 2, 1) := dk_44 (dk_at dksX42_call_3 1 rfl rfl)
theorem dX42_call_122 : decode cX42_call 122 = .ok (.iconst 3, 1) := dk_6 (dk_at dksX42_call_3 2 rfl rfl)
theorem dX42_call_123 : decode cX42_call 123 = .ok (.laload, 1) := dk_47 (dk_at dksX42_call_3 3 rfl rfl)
theorem dX42_call_124 : decode cX42_call 124 = .ok (.invokevirtual 73, 3) := dk_182 0 73 (dk_at dksX42_call_3 4 rfl rfl)
theorem dX42_call_127 : decode cX42_call 127 = .ok (.invokestatic 76, 3) := dk_184 0 76 (dk_at dksX42_call_3 7 rfl rfl)
theorem dX42_call_130 : decode cX42_call 130 = .ok (.lreturn, 1) := dk_173 (dk_at dksX42_call_3 10 rfl rfl)
theorem dX42_call_131 : decode cX42_call 131 = .ok (.aload_n 0, 1) := dk_42 (dk_at dksX42_call_3 11 rfl rfl)
theorem dX42_call_132 : decode cX42_call 132 = .ok (.getfield 9, 3) := dk_180 0 9 (dk_at dksX42_call_3 12 rfl rfl)
theorem dX42_call_135 : decode cX42_call 135 = .ok (.aload_n 2, 1) := dk_44 (dk_at dksX42_call_3 15 rfl rfl)
theorem dX42_call_136 : decode cX42_call 136 = .ok (.iconst 0, 1) := dk_3 (dk_at dksX42_call_3 16 rfl rfl)
theorem dX42_call_137 : decode cX42_call 137 = .ok (.laload, 1) := dk_47 (dk_at dksX42_call_3 17 rfl rfl)
theorem dX42_call_138 : decode cX42_call 138 = .ok (.iload 4, 2) := dk_21 4 (dk_at dksX42_call_3 18 rfl rfl)
theorem dX42_call_140 : decode cX42_call 140 = .ok (.aload_n 2, 1) := dk_44 (dk_at dksX42_call_3 20 rfl rfl)
theorem dX42_call_141 : decode cX42_call 141 = .ok (.iconst 2, 1) := dk_5 (dk_at dksX42_call_3 21 rfl rfl)
theorem dX42_call_142 : decode cX42_call 142 = .ok (.laload, 1) := dk_47 (dk_at dksX42_call_3 22 rfl rfl)
theorem dX42_call_143 : decode cX42_call 143 = .ok (.l2i, 1) := dk_136 (dk_at dksX42_call_3 23 rfl rfl)
theorem dX42_call_144 : decode cX42_call 144 = .ok (.invokevirtual 80, 3) := dk_182 0 80 (dk_at dksX42_call_4 0 rfl rfl)
theorem dX42_call_147 : decode cX42_call 147 = .ok (.invokestatic 76, 3) := dk_184 0 76 (dk_at dksX42_call_4 3 rfl rfl)
theorem dX42_call_150 : decode cX42_call 150 = .ok (.lreturn, 1) := dk_173 (dk_at dksX42_call_4 6 rfl rfl)
theorem dX42_call_151 : decode cX42_call 151 = .ok (.aload_n 0, 1) := dk_42 (dk_at dksX42_call_4 7 rfl rfl)
theorem dX42_call_152 : decode cX42_call 152 = .ok (.getfield 9, 3) := dk_180 0 9 (dk_at dksX42_call_4 8 rfl rfl)
theorem dX42_call_155 : decode cX42_call 155 = .ok (.iload_n 3, 1) := dk_29 (dk_at dksX42_call_4 11 rfl rfl)
theorem dX42_call_156 : decode cX42_call 156 = .ok (.iload 4, 2) := dk_21 4 (dk_at dksX42_call_4 12 rfl rfl)
theorem dX42_call_158 : decode cX42_call 158 = .ok (.aload_n 2, 1) := dk_44 (dk_at dksX42_call_4 14 rfl rfl)
theorem dX42_call_159 : decode cX42_call 159 = .ok (.iconst 2, 1) := dk_5 (dk_at dksX42_call_4 15 rfl rfl)
theorem dX42_call_160 : decode cX42_call 160 = .ok (.laload, 1) := dk_47 (dk_at dksX42_call_4 16 rfl rfl)
theorem dX42_call_161 : decode cX42_call 161 = .ok (.lconst 1, 1) := dk_10 (dk_at dksX42_call_4 17 rfl rfl)
theorem dX42_call_162 : decode cX42_call 162 = .ok (.lcmp, 1) := dk_148 (dk_at dksX42_call_4 18 rfl rfl)
theorem dX42_call_163 : decode cX42_call 163 = .ok (.ifCond .ne 7, 3) := dk_154 0 7 (dk_at dksX42_call_4 19 rfl rfl)
theorem dX42_call_166 : decode cX42_call 166 = .ok (.iconst 1, 1) := dk_4 (dk_at dksX42_call_4 22 rfl rfl)
theorem dX42_call_167 : decode cX42_call 167 = .ok (.goto 4, 3) := dk_167 0 4 (dk_at dksX42_call_5 0 rfl rfl)
theorem dX42_call_170 : decode cX42_call 170 = .ok (.iconst 0, 1) := dk_3 (dk_at dksX42_call_5 3 rfl rfl)
theorem dX42_call_171 : decode cX42_call 171 = .ok (.invokevirtual 83, 3) := dk_182 0 83 (dk_at dksX42_call_5 4 rfl rfl)
theorem dX42_call_174 : decode cX42_call 174 = .ok (.invokestatic 76, 3) := dk_184 0 76 (dk_at dksX42_call_5 7 rfl rfl)
theorem dX42_call_177 : decode cX42_call 177 = .ok (.lreturn, 1) := dk_173 (dk_at dksX42_call_5 10 rfl rfl)
theorem dX42_call_178 : decode cX42_call 178 = .ok (.aload_n 0, 1) := dk_42 (dk_at dksX42_call_5 11 rfl rfl)
theorem dX42_call_179 : decode cX42_call 179 = .ok (.getfield 9, 3) := dk_180 0 9 (dk_at dksX42_call_5 12 rfl rfl)
theorem dX42_call_182 : decode cX42_call 182 = .ok (.invokevirtual 86, 3) := dk_182 0 86 (dk_at dksX42_call_5 15 rfl rfl)
theorem dX42_call_185 : decode cX42_call 185 = .ok (.lconst 1, 1) := dk_10 (dk_at dksX42_call_5 18 rfl rfl)
theorem dX42_call_186 : decode cX42_call 186 = .ok (.lreturn, 1) := dk_173 (dk_at dksX42_call_5 19 rfl rfl)
theorem dX42_call_187 : decode cX42_call 187 = .ok (.aload_n 0, 1) := dk_42 (dk_at dksX42_call_5 20 rfl rfl)
theorem dX42_call_188 : decode cX42_call 188 = .ok (.getfield 9, 3) := dk_180 0 9 (dk_at dksX42_call_5 21 rfl rfl)
theorem dX42_call_191 : decode cX42_call 191 = .ok (.iload_n 3, 1) := dk_29 (dk_at dksX42_call_6 0 rfl rfl)
theorem dX42_call_192 : decode cX42_call 192 = .ok (.invokevirtual 89, 3) := dk_182 0 89 (dk_at dksX42_call_6 1 rfl rfl)
theorem dX42_call_195 : decode cX42_call 195 = .ok (.i2l, 1) := dk_133 (dk_at dksX42_call_6 4 rfl rfl)
theorem dX42_call_196 : decode cX42_call 196 = .ok (.lreturn, 1) := dk_173 (dk_at dksX42_call_6 5 rfl rfl)
theorem dX42_call_197 : decode cX42_call 197 = .ok (.aload_n 0, 1) := dk_42 (dk_at dksX42_call_6 6 rfl rfl)
theorem dX42_call_198 : decode cX42_call 198 = .ok (.getfield 9, 3) := dk_180 0 9 (dk_at dksX42_call_6 7 rfl rfl)
theorem dX42_call_201 : decode cX42_call 201 = .ok (.invokevirtual 92, 3) := dk_182 0 92 (dk_at dksX42_call_6 10 rfl rfl)
theorem dX42_call_204 : decode cX42_call 204 = .ok (.i2l, 1) := dk_133 (dk_at dksX42_call_6 13 rfl rfl)
theorem dX42_call_205 : decode cX42_call 205 = .ok (.lreturn, 1) := dk_173 (dk_at dksX42_call_6 14 rfl rfl)
theorem dX42_call_206 : decode cX42_call 206 = .ok (.aload_n 0, 1) := dk_42 (dk_at dksX42_call_6 15 rfl rfl)
theorem dX42_call_207 : decode cX42_call 207 = .ok (.getfield 9, 3) := dk_180 0 9 (dk_at dksX42_call_6 16 rfl rfl)
theorem dX42_call_210 : decode cX42_call 210 = .ok (.invokevirtual 95, 3) := dk_182 0 95 (dk_at dksX42_call_6 19 rfl rfl)
theorem dX42_call_213 : decode cX42_call 213 = .ok (.i2l, 1) := dk_133 (dk_at dksX42_call_6 22 rfl rfl)
theorem dX42_call_214 : decode cX42_call 214 = .ok (.lreturn, 1) := dk_173 (dk_at dksX42_call_6 23 rfl rfl)
theorem dX42_call_215 : decode cX42_call 215 = .ok (.aload_n 0, 1) := dk_42 (dk_at dksX42_call_7 0 rfl rfl)
theorem dX42_call_216 : decode cX42_call 216 = .ok (.getfield 9, 3) := dk_180 0 9 (dk_at dksX42_call_7 1 rfl rfl)
theorem dX42_call_219 : decode cX42_call 219 = .ok (.iload_n 3, 1) := dk_29 (dk_at dksX42_call_7 4 rfl rfl)
theorem dX42_call_220 : decode cX42_call 220 = .ok (.iload 4, 2) := dk_21 4 (dk_at dksX42_call_7 5 rfl rfl)
theorem dX42_call_222 : decode cX42_call 222 = .ok (.invokevirtual 97, 3) := dk_182 0 97 (dk_at dksX42_call_7 7 rfl rfl)
theorem dX42_call_225 : decode cX42_call 225 = .ok (.i2l, 1) := dk_133 (dk_at dksX42_call_7 10 rfl rfl)
theorem dX42_call_226 : decode cX42_call 226 = .ok (.lreturn, 1) := dk_173 (dk_at dksX42_call_7 11 rfl rfl)
theorem dX42_call_227 : decode cX42_call 227 = .ok (.aload_n 0, 1) := dk_42 (dk_at dksX42_call_7 12 rfl rfl)
theorem dX42_call_228 : decode cX42_call 228 = .ok (.getfield 9, 3) := dk_180 0 9 (dk_at dksX42_call_7 13 rfl rfl)
theorem dX42_call_231 : decode cX42_call 231 = .ok (.iload_n 3, 1) := dk_29 (dk_at dksX42_call_7 16 rfl rfl)
theorem dX42_call_232 : decode cX42_call 232 = .ok (.invokevirtual 100, 3) := dk_182 0 100 (dk_at dksX42_call_7 17 rfl rfl)
theorem dX42_call_235 : decode cX42_call 235 = .ok (.lreturn, 1) := dk_173 (dk_at dksX42_call_7 20 rfl rfl)
theorem dX42_call_236 : decode cX42_call 236 = .ok (.aload_n 0, 1) := dk_42 (dk_at dksX42_call_7 21 rfl rfl)
theorem dX42_call_237 : decode cX42_call 237 = .ok (.getfield 9, 3) := dk_180 0 9 (dk_at dksX42_call_8 0 rfl rfl)
theorem dX42_call_240 : decode cX42_call 240 = .ok (.iload_n 3, 1) := dk_29 (dk_at dksX42_call_8 3 rfl rfl)
theorem dX42_call_241 : decode cX42_call 241 = .ok (.iload 4, 2) := dk_21 4 (dk_at dksX42_call_8 4 rfl rfl)
theorem dX42_call_243 : decode cX42_call 243 = .ok (.invokevirtual 103, 3) := dk_182 0 103 (dk_at dksX42_call_8 6 rfl rfl)
theorem dX42_call_246 : decode cX42_call 246 = .ok (.lreturn, 1) := dk_173 (dk_at dksX42_call_8 9 rfl rfl)
theorem dX42_call_247 : decode cX42_call 247 = .ok (.aload_n 0, 1) := dk_42 (dk_at dksX42_call_8 10 rfl rfl)
theorem dX42_call_248 : decode cX42_call 248 = .ok (.getfield 9, 3) := dk_180 0 9 (dk_at dksX42_call_8 11 rfl rfl)
theorem dX42_call_251 : decode cX42_call 251 = .ok (.iload_n 3, 1) := dk_29 (dk_at dksX42_call_8 14 rfl rfl)
theorem dX42_call_252 : decode cX42_call 252 = .ok (.iload 4, 2) := dk_21 4 (dk_at dksX42_call_8 15 rfl rfl)
theorem dX42_call_254 : decode cX42_call 254 = .ok (.invokevirtual 106, 3) := dk_182 0 106 (dk_at dksX42_call_8 17 rfl rfl)
theorem dX42_call_257 : decode cX42_call 257 = .ok (.lreturn, 1) := dk_173 (dk_at dksX42_call_8 20 rfl rfl)
theorem dX42_call_258 : decode cX42_call 258 = .ok (.aload_n 0, 1) := dk_42 (dk_at dksX42_call_8 21 rfl rfl)
theorem dX42_call_259 : decode cX42_call 259 = .ok (.getfield 9, 3) := dk_180 0 9 (dk_at dksX42_call_9 0 rfl rfl)
theorem dX42_call_262 : decode cX42_call 262 = .ok (.iload_n 3, 1) := dk_29 (dk_at dksX42_call_9 3 rfl rfl)
theorem dX42_call_263 : decode cX42_call 263 = .ok (.iload 4, 2) := dk_21 4 (dk_at dksX42_call_9 4 rfl rfl)
theorem dX42_call_265 : decode cX42_call 265 = .ok (.invokevirtual 108, 3) := dk_182 0 108 (dk_at dksX42_call_9 6 rfl rfl)
theorem dX42_call_268 : decode cX42_call 268 = .ok (.lreturn, 1) := dk_173 (dk_at dksX42_call_9 9 rfl rfl)
theorem dX42_call_269 : decode cX42_call 269 = .ok (.aload_n 0, 1) := dk_42 (dk_at dksX42_call_9 10 rfl rfl)
theorem dX42_call_270 : decode cX42_call 270 = .ok (.getfield 9, 3) := dk_180 0 9 (dk_at dksX42_call_9 11 rfl rfl)
theorem dX42_call_273 : decode cX42_call 273 = .ok (.iload_n 3, 1) := dk_29 (dk_at dksX42_call_9 14 rfl rfl)
theorem dX42_call_274 : decode cX42_call 274 = .ok (.invokevirtual 110, 3) := dk_182 0 110 (dk_at dksX42_call_9 15 rfl rfl)
theorem dX42_call_277 : decode cX42_call 277 = .ok (.invokestatic 76, 3) := dk_184 0 76 (dk_at dksX42_call_9 18 rfl rfl)
theorem dX42_call_280 : decode cX42_call 280 = .ok (.lreturn, 1) := dk_173 (dk_at dksX42_call_9 21 rfl rfl)
theorem dX42_call_281 : decode cX42_call 281 = .ok (.aload_n 0, 1) := dk_42 (dk_at dksX42_call_9 22 rfl rfl)
theorem dX42_call_282 : decode cX42_call 282 = .ok (.getfield 9, 3) := dk_180 0 9 (dk_at dksX42_call_10 0 rfl rfl)
theorem dX42_call_285 : decode cX42_call 285 = .ok (.invokevirtual 113, 3) := dk_182 0 113 (dk_at dksX42_call_10 3 rfl rfl)
theorem dX42_call_288 : decode cX42_call 288 = .ok (.i2l, 1) := dk_133 (dk_at dksX42_call_10 6 rfl rfl)
theorem dX42_call_289 : decode cX42_call 289 = .ok (.lreturn, 1) := dk_173 (dk_at dksX42_call_10 7 rfl rfl)
theorem dX42_call_290 : decode cX42_call 290 = .ok (.aload_n 0, 1) := dk_42 (dk_at dksX42_call_10 8 rfl rfl)
theorem dX42_call_291 : decode cX42_call 291 = .ok (.getfield 9, 3) := dk_180 0 9 (dk_at dksX42_call_10 9 rfl rfl)
theorem dX42_call_294 : decode cX42_call 294 = .ok (.iload_n 3, 1) := dk_29 (dk_at dksX42_call_10 12 rfl rfl)
theorem dX42_call_295 : decode cX42_call 295 = .ok (.iload 4, 2) := dk_21 4 (dk_at dksX42_call_10 13 rfl rfl)
theorem dX42_call_297 : decode cX42_call 297 = .ok (.invokevirtual 115, 3) := dk_182 0 115 (dk_at dksX42_call_10 15 rfl rfl)
theorem dX42_call_300 : decode cX42_call 300 = .ok (.i2l, 1) := dk_133 (dk_at dksX42_call_10 18 rfl rfl)
theorem dX42_call_301 : decode cX42_call 301 = .ok (.lreturn, 1) := dk_173 (dk_at dksX42_call_10 19 rfl rfl)
theorem dX42_call_302 : decode cX42_call 302 = .ok (.aload_n 0, 1) := dk_42 (dk_at dksX42_call_10 20 rfl rfl)
theorem dX42_call_303 : decode cX42_call 303 = .ok (.getfield 9, 3) := dk_180 0 9 (dk_at dksX42_call_10 21 rfl rfl)
theorem dX42_call_306 : decode cX42_call 306 = .ok (.invokevirtual 117, 3) := dk_182 0 117 (dk_at dksX42_call_11 0 rfl rfl)
theorem dX42_call_309 : decode cX42_call 309 = .ok (.i2l, 1) := dk_133 (dk_at dksX42_call_11 3 rfl rfl)
theorem dX42_call_310 : decode cX42_call 310 = .ok (.lreturn, 1) := dk_173 (dk_at dksX42_call_11 4 rfl rfl)
theorem dX42_call_311 : decode cX42_call 311 = .ok (.aload_n 0, 1) := dk_42 (dk_at dksX42_call_11 5 rfl rfl)
theorem dX42_call_312 : decode cX42_call 312 = .ok (.getfield 9, 3) := dk_180 0 9 (dk_at dksX42_call_11 6 rfl rfl)
theorem dX42_call_315 : decode cX42_call 315 = .ok (.invokevirtual 119, 3) := dk_182 0 119 (dk_at dksX42_call_11 9 rfl rfl)
theorem dX42_call_318 : decode cX42_call 318 = .ok (.invokestatic 76, 3) := dk_184 0 76 (dk_at dksX42_call_11 12 rfl rfl)
theorem dX42_call_321 : decode cX42_call 321 = .ok (.lreturn, 1) := dk_173 (dk_at dksX42_call_11 15 rfl rfl)
theorem q448 : (Jvm.Cond.initialized "WasteHouse$RoundRoom") ∈ lw_all := lw_g (lw_at lw_m1 56 rfl) rfl
theorem q2009 : (Jvm.Cond.selects "WasteHouse$RoundRoom" ({ cls := "java/lang/Object", name := "getClass", desc := "()Ljava/lang/Class;" } : Jvm.MethodName) ({ cls := "java/lang/Object", name := "getClass", desc := "()Ljava/lang/Class;" } : Jvm.MethodName)) ∈ lw_all := lw_g (lw_at lw_m7 177 rfl) rfl
theorem q2271 : (Jvm.Cond.instantiable "WasteHouse$RoundRoom" (4 : Nat)) ∈ lw_all := lw_g (lw_at lw_m8 199 rfl) rfl
theorem q2273 : (Jvm.Cond.instanceMethod ({ cls := "WasteHouse$RoundRoom", name := "<init>", desc := "(LWasteHouse$RoundColumns;)V" } : Jvm.MethodName)) ∈ lw_all := lw_g (lw_at lw_m8 201 rfl) rfl
theorem q2274 : (Jvm.Cond.code ({ cls := "WasteHouse$RoundRoom", name := "<init>", desc := "(LWasteHouse$RoundColumns;)V" } : Jvm.MethodName) prog_40_method_1_code (2 : Nat) (Option.none : Option Jvm.ClassFile.FieldType)) ∈ lw_all := lw_g (lw_at lw_m8 202 rfl) rfl
theorem q2275 : (Jvm.Cond.stringRef "WasteHouse$RoundRoom" (1 : Nat) "rounds") ∈ lw_tbl := lw_at lw_m8 203 rfl
theorem q2276 : (Jvm.Cond.methodLink "WasteHouse$RoundRoom" (3 : Nat) ({ cls := "WasteHouse$Room", name := "<init>", desc := "(Ljava/lang/String;)V" } : Jvm.MethodName)) ∈ lw_all := lw_g (lw_at lw_m8 204 rfl) rfl
theorem q2277 : (Jvm.Cond.stringRef "WasteHouse$RoundRoom" (14 : Nat) "bin") ∈ lw_tbl := lw_at lw_m8 205 rfl
theorem q2278 : (Jvm.Cond.stringRef "WasteHouse$RoundRoom" (16 : Nat) "li") ∈ lw_tbl := lw_at lw_m8 206 rfl
theorem q2279 : (Jvm.Cond.methodLink "WasteHouse$RoundRoom" (18 : Nat) ({ cls := "WasteHouse$RoundRoom", name := "add", desc := "(Ljava/lang/String;Ljava/lang/String;)V" } : Jvm.MethodName)) ∈ lw_all := lw_g (lw_at lw_m8 207 rfl) rfl
theorem q2280 : (Jvm.Cond.sameMethod "WasteHouse$RoundRoom" "WasteHouse$Room" "add" "(Ljava/lang/String;Ljava/lang/String;)V") ∈ lw_all := lw_g (lw_at lw_m8 208 rfl) rfl
theorem q2281 : (Jvm.Cond.selects "WasteHouse$RoundRoom" ({ cls := "WasteHouse$RoundRoom", name := "add", desc := "(Ljava/lang/String;Ljava/lang/String;)V" } : Jvm.MethodName) ({ cls := "WasteHouse$Room", name := "add", desc := "(Ljava/lang/String;Ljava/lang/String;)V" } : Jvm.MethodName)) ∈ lw_all := lw_g (lw_at lw_m8 209 rfl) rfl
theorem q2282 : (Jvm.Cond.stringRef "WasteHouse$RoundRoom" (22 : Nat) "way") ∈ lw_tbl := lw_at lw_m8 210 rfl
theorem q2283 : (Jvm.Cond.stringRef "WasteHouse$RoundRoom" (24 : Nat) "iiil") ∈ lw_tbl := lw_at lw_m8 211 rfl
theorem q2284 : (Jvm.Cond.stringRef "WasteHouse$RoundRoom" (26 : Nat) "vehicle") ∈ lw_tbl := lw_at lw_m8 212 rfl
theorem q2285 : (Jvm.Cond.stringRef "WasteHouse$RoundRoom" (28 : Nat) "lii") ∈ lw_tbl := lw_at lw_m8 213 rfl
theorem q2286 : (Jvm.Cond.stringRef "WasteHouse$RoundRoom" (30 : Nat) "branch") ∈ lw_tbl := lw_at lw_m8 214 rfl
theorem q2287 : (Jvm.Cond.stringRef "WasteHouse$RoundRoom" (32 : Nat) "iib") ∈ lw_tbl := lw_at lw_m8 215 rfl
theorem q2288 : (Jvm.Cond.stringRef "WasteHouse$RoundRoom" (34 : Nat) "clear") ∈ lw_tbl := lw_at lw_m8 216 rfl
theorem q2289 : (Jvm.Cond.stringRef "WasteHouse$RoundRoom" (36 : Nat) "") ∈ lw_tbl := lw_at lw_m8 217 rfl
theorem q2290 : (Jvm.Cond.stringRef "WasteHouse$RoundRoom" (38 : Nat) "run") ∈ lw_tbl := lw_at lw_m8 218 rfl
theorem q2291 : (Jvm.Cond.stringRef "WasteHouse$RoundRoom" (40 : Nat) "i") ∈ lw_tbl := lw_at lw_m8 219 rfl
theorem q2292 : (Jvm.Cond.stringRef "WasteHouse$RoundRoom" (42 : Nat) "steps") ∈ lw_tbl := lw_at lw_m8 220 rfl
theorem q2293 : (Jvm.Cond.stringRef "WasteHouse$RoundRoom" (44 : Nat) "columns") ∈ lw_tbl := lw_at lw_m8 221 rfl
theorem q2294 : (Jvm.Cond.stringRef "WasteHouse$RoundRoom" (46 : Nat) "column") ∈ lw_tbl := lw_at lw_m8 222 rfl
theorem q2295 : (Jvm.Cond.stringRef "WasteHouse$RoundRoom" (48 : Nat) "ii") ∈ lw_tbl := lw_at lw_m8 223 rfl
theorem q2296 : (Jvm.Cond.stringRef "WasteHouse$RoundRoom" (50 : Nat) "bound") ∈ lw_tbl := lw_at lw_m8 224 rfl
theorem q2297 : (Jvm.Cond.stringRef "WasteHouse$RoundRoom" (52 : Nat) "dual") ∈ lw_tbl := lw_at lw_m8 225 rfl
theorem q2298 : (Jvm.Cond.stringRef "WasteHouse$RoundRoom" (54 : Nat) "used") ∈ lw_tbl := lw_at lw_m8 226 rfl
theorem q2299 : (Jvm.Cond.stringRef "WasteHouse$RoundRoom" (56 : Nat) "share") ∈ lw_tbl := lw_at lw_m8 227 rfl
theorem q2300 : (Jvm.Cond.stringRef "WasteHouse$RoundRoom" (58 : Nat) "dropped") ∈ lw_tbl := lw_at lw_m8 228 rfl
theorem q2301 : (Jvm.Cond.stringRef "WasteHouse$RoundRoom" (60 : Nat) "cuts") ∈ lw_tbl := lw_at lw_m8 229 rfl
theorem q2302 : (Jvm.Cond.stringRef "WasteHouse$RoundRoom" (62 : Nat) "cut") ∈ lw_tbl := lw_at lw_m8 230 rfl
theorem q2303 : (Jvm.Cond.stringRef "WasteHouse$RoundRoom" (64 : Nat) "check") ∈ lw_tbl := lw_at lw_m8 231 rfl
theorem q2304 : (Jvm.Cond.stringRef "WasteHouse$RoundRoom" (66 : Nat) "closed") ∈ lw_tbl := lw_at lw_m8 232 rfl
theorem q2305 : (Jvm.Cond.fieldLink "WasteHouse$RoundRoom" (9 : Nat) "WasteHouse$RoundRoom" "rounds" "LWasteHouse$RoundColumns;") ∈ lw_all := lw_g (lw_at lw_m8 233 rfl) rfl
theorem q2306 : (Jvm.Cond.laysFinal "WasteHouse$RoundRoom" "WasteHouse$RoundRoom" "rounds" "LWasteHouse$RoundColumns;") ∈ lw_all := lw_g (lw_at lw_m8 234 rfl) rfl
theorem q2307 : (Jvm.Cond.soleField "WasteHouse$RoundRoom" "rounds") ∈ lw_all := lw_g (lw_at lw_m8 235 rfl) rfl
theorem q2308 : (Jvm.Cond.laysFinal "WasteHouse$RoundRoom" "WasteHouse$Room" "name" "Ljava/lang/String;") ∈ lw_all := lw_g (lw_at lw_m8 236 rfl) rfl
theorem q2309 : (Jvm.Cond.laysFinal "WasteHouse$RoundRoom" "WasteHouse$Room" "words" "Ljava/util/ArrayList;") ∈ lw_all := lw_g (lw_at lw_m8 237 rfl) rfl
theorem q2310 : (Jvm.Cond.laysFinal "WasteHouse$RoundRoom" "WasteHouse$Room" "needs" "Ljava/util/ArrayList;") ∈ lw_all := lw_g (lw_at lw_m8 238 rfl) rfl
theorem q2311 : (Jvm.Cond.superclass "WasteHouse$RoundRoom" "WasteHouse$Room") ∈ lw_all := lw_g (lw_at lw_m8 239 rfl) rfl
theorem q3063 : (Jvm.Cond.selects "WasteHouse$RoundRoom" ({ cls := "WasteHouse$Room", name := "find", desc := "(Ljava/lang/String;)I" } : Jvm.MethodName) ({ cls := "WasteHouse$Room", name := "find", desc := "(Ljava/lang/String;)I" } : Jvm.MethodName)) ∈ lw_all := lw_g (lw_at lw_m12 31 rfl) rfl
theorem q3119 : (Jvm.Cond.selects "WasteHouse$RoundRoom" ({ cls := "java/lang/Object", name := "equals", desc := "(Ljava/lang/Object;)Z" } : Jvm.MethodName) ({ cls := "java/lang/Object", name := "equals", desc := "(Ljava/lang/Object;)Z" } : Jvm.MethodName)) ∈ lw_all := lw_g (lw_at lw_m12 87 rfl) rfl
theorem q3177 : (Jvm.Cond.selects "WasteHouse$RoundRoom" ({ cls := "WasteHouse$Room", name := "need", desc := "(I)Ljava/lang/String;" } : Jvm.MethodName) ({ cls := "WasteHouse$Room", name := "need", desc := "(I)Ljava/lang/String;" } : Jvm.MethodName)) ∈ lw_all := lw_g (lw_at lw_m12 145 rfl) rfl
theorem q3637 : (Jvm.Cond.selects "WasteHouse$RoundRoom" ({ cls := "java/lang/Object", name := "hashCode", desc := "()I" } : Jvm.MethodName) ({ cls := "java/lang/Object", name := "hashCode", desc := "()I" } : Jvm.MethodName)) ∈ lw_all := lw_g (lw_at lw_m14 125 rfl) rfl
theorem q6033 : (Jvm.Cond.selects "WasteHouse$RoundRoom" ({ cls := "WasteHouse$Room", name := "call", desc := "(I[J)J" } : Jvm.MethodName) ({ cls := "WasteHouse$RoundRoom", name := "call", desc := "(I[J)J" } : Jvm.MethodName)) ∈ lw_all := lw_g (lw_at lw_m24 121 rfl) rfl
theorem q6034 : (Jvm.Cond.instanceMethod ({ cls := "WasteHouse$RoundRoom", name := "call", desc := "(I[J)J" } : Jvm.MethodName)) ∈ lw_all := lw_g (lw_at lw_m24 122 rfl) rfl
theorem q6035 : (Jvm.Cond.code ({ cls := "WasteHouse$RoundRoom", name := "call", desc := "(I[J)J" } : Jvm.MethodName) prog_40_method_2_code (5 : Nat) (Option.some Jvm.ClassFile.FieldType.long)) ∈ lw_all := lw_g (lw_at lw_m24 123 rfl) rfl
theorem q6036 : (Jvm.Cond.methodLink "WasteHouse$RoundRoom" (68 : Nat) ({ cls := "WasteHouse$RoundColumns", name := "bin", desc := "(JI)I" } : Jvm.MethodName)) ∈ lw_all := lw_g (lw_at lw_m24 124 rfl) rfl
theorem q6044 : (Jvm.Cond.methodLink "WasteHouse$RoundRoom" (73 : Nat) ({ cls := "WasteHouse$RoundColumns", name := "way", desc := "(IIIJ)Z" } : Jvm.MethodName)) ∈ lw_all := lw_g (lw_at lw_m24 132 rfl) rfl
theorem q6049 : (Jvm.Cond.methodLink "WasteHouse$RoundRoom" (76 : Nat) ({ cls := "WasteHouse$RoundRoom", name := "bit", desc := "(Z)J" } : Jvm.MethodName)) ∈ lw_all := lw_g (lw_at lw_m24 137 rfl) rfl
theorem q6050 : (Jvm.Cond.sameMethod "WasteHouse$RoundRoom" "WasteHouse$Room" "bit" "(Z)J") ∈ lw_all := lw_g (lw_at lw_m24 138 rfl) rfl
theorem q6051 : (Jvm.Cond.methodLink "WasteHouse$RoundRoom" (80 : Nat) ({ cls := "WasteHouse$RoundColumns", name := "vehicle", desc := "(JII)Z" } : Jvm.MethodName)) ∈ lw_all := lw_g (lw_at lw_m24 139 rfl) rfl
theorem q6058 : (Jvm.Cond.methodLink "WasteHouse$RoundRoom" (83 : Nat) ({ cls := "WasteHouse$RoundColumns", name := "branch", desc := "(IIZ)Z" } : Jvm.MethodName)) ∈ lw_all := lw_g (lw_at lw_m24 146 rfl) rfl
theorem q6068 : (Jvm.Cond.methodLink "WasteHouse$RoundRoom" (86 : Nat) ({ cls := "WasteHouse$RoundColumns", name := "clear", desc := "()V" } : Jvm.MethodName)) ∈ lw_all := lw_g (lw_at lw_m24 156 rfl) rfl
theorem q6072 : (Jvm.Cond.methodLink "WasteHouse$RoundRoom" (89 : Nat) ({ cls := "WasteHouse$RoundColumns", name := "run", desc := "(I)I" } : Jvm.MethodName)) ∈ lw_all := lw_g (lw_at lw_m24 160 rfl) rfl
theorem q6198 : (Jvm.Cond.methodLink "WasteHouse$RoundRoom" (92 : Nat) ({ cls := "WasteHouse$RoundColumns", name := "steps", desc := "()I" } : Jvm.MethodName)) ∈ lw_all := lw_g (lw_at lw_m25 46 rfl) rfl
theorem q6202 : (Jvm.Cond.methodLink "WasteHouse$RoundRoom" (95 : Nat) ({ cls := "WasteHouse$RoundColumns", name := "columns", desc := "()I" } : Jvm.MethodName)) ∈ lw_all := lw_g (lw_at lw_m25 50 rfl) rfl
theorem q6206 : (Jvm.Cond.methodLink "WasteHouse$RoundRoom" (97 : Nat) ({ cls := "WasteHouse$RoundColumns", name := "column", desc := "(II)I" } : Jvm.MethodName)) ∈ lw_all := lw_g (lw_at lw_m25 54 rfl) rfl
theorem q6212 : (Jvm.Cond.methodLink "WasteHouse$RoundRoom" (100 : Nat) ({ cls := "WasteHouse$RoundColumns", name := "bound", desc := "(I)J" } : Jvm.MethodName)) ∈ lw_all := lw_g (lw_at lw_m25 60 rfl) rfl
theorem q6220 : (Jvm.Cond.methodLink "WasteHouse$RoundRoom" (103 : Nat) ({ cls := "WasteHouse$RoundColumns", name := "dual", desc := "(II)J" } : Jvm.MethodName)) ∈ lw_all := lw_g (lw_at lw_m25 68 rfl) rfl
theorem q6226 : (Jvm.Cond.methodLink "WasteHouse$RoundRoom" (106 : Nat) ({ cls := "WasteHouse$RoundColumns", name := "used", desc := "(II)J" } : Jvm.MethodName)) ∈ lw_all := lw_g (lw_at lw_m25 74 rfl) rfl
theorem q6230 : (Jvm.Cond.methodLink "WasteHouse$RoundRoom" (108 : Nat) ({ cls := "WasteHouse$RoundColumns", name := "share", desc := "(II)J" } : Jvm.MethodName)) ∈ lw_all := lw_g (lw_at lw_m25 78 rfl) rfl
theorem q6234 : (Jvm.Cond.methodLink "WasteHouse$RoundRoom" (110 : Nat) ({ cls := "WasteHouse$RoundColumns", name := "dropped", desc := "(I)Z" } : Jvm.MethodName)) ∈ lw_all := lw_g (lw_at lw_m25 82 rfl) rfl
theorem q6238 : (Jvm.Cond.methodLink "WasteHouse$RoundRoom" (113 : Nat) ({ cls := "WasteHouse$RoundColumns", name := "cuts", desc := "()I" } : Jvm.MethodName)) ∈ lw_all := lw_g (lw_at lw_m25 86 rfl) rfl
theorem q6242 : (Jvm.Cond.methodLink "WasteHouse$RoundRoom" (115 : Nat) ({ cls := "WasteHouse$RoundColumns", name := "cut", desc := "(II)I" } : Jvm.MethodName)) ∈ lw_all := lw_g (lw_at lw_m25 90 rfl) rfl
theorem q6247 : (Jvm.Cond.methodLink "WasteHouse$RoundRoom" (117 : Nat) ({ cls := "WasteHouse$RoundColumns", name := "check", desc := "()I" } : Jvm.MethodName)) ∈ lw_all := lw_g (lw_at lw_m25 95 rfl) rfl
theorem q6256 : (Jvm.Cond.methodLink "WasteHouse$RoundRoom" (119 : Nat) ({ cls := "WasteHouse$RoundColumns", name := "labelsClosed", desc := "()Z" } : Jvm.MethodName)) ∈ lw_all := lw_g (lw_at lw_m25 104 rfl) rfl
theorem q9614 : (Jvm.Cond.castable "WasteHouse$RoundRoom" "WasteHouse$Room") ∈ lw_tbl := lw_at lw_m39 102 rfl
theorem q9665 : (Jvm.Cond.castable "WasteHouse$RoundRoom" "java/lang/Object") ∈ lw_tbl := lw_at lw_m39 153 rfl
theorem in_X42 : ∀ w ∈ wsX420, w ∈ lw_all := lw_in wsX420 [2308, 2309, 2310, 2306] (by decide +kernel) (by decide +kernel)
