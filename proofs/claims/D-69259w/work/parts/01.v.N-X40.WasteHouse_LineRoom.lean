/-! WasteHouse$LineRoom -/
set_option maxRecDepth 100000
def RX40 : String := "WasteHouse$LineRoom"
def TX40 : u_T := fun k => match k with
  | 0 => ("WasteHouse$Room", "name", "Ljava/lang/String;", true)
  | 1 => ("WasteHouse$Room", "words", "Ljava/util/ArrayList;", true)
  | 2 => ("WasteHouse$Room", "needs", "Ljava/util/ArrayList;", true)
  | _ => ("WasteHouse$LineRoom", "line", "LWasteHouse$ShareSolve;", true)
def tyX40 : Nat → FieldType := fun k => match k with
  | 0 => .object "java/lang/String"
  | 1 => .object "java/util/ArrayList"
  | 2 => .object "java/util/ArrayList"
  | _ => .object "WasteHouse$ShareSolve"
abbrev wsX400 : List Cond := u_ws RX40 TX40 4
theorem nmX40 : ∀ a, a < 4 → ∀ b, b < 4 → a ≠ b → (TX40 a).2.1 ≠ (TX40 b).2.1 := by decide +kernel
theorem tyX40_ok : ∀ k, k < 4 → parseFieldDescriptor (TX40 k).2.2.1 = some (tyX40 k) := by decide +kernel
abbrev cX40_init : ByteArray := prog_26_method_1_code
def yX40_init : MethodName := ⟨RX40, "<init>", "(LWasteHouse$ShareSolve;)V"⟩
def dkwX40_init_5 : List UInt8 := [182, 0, 18, 42, 18, 62, 18, 38, 182, 0, 18, 42, 18, 64, 18, 24, 182, 0, 18, 177]
abbrev dktX40_init_5 : List UInt8 := dkwX40_init_5 ++ []
def dkwX40_init_4 : List UInt8 := [182, 0, 18, 42, 18, 54, 18, 56, 182, 0, 18, 42, 18, 58, 18, 28, 182, 0, 18, 42, 18, 60, 18, 32]
abbrev dktX40_init_4 : List UInt8 := dkwX40_init_4 ++ dktX40_init_5
def dkwX40_init_3 : List UInt8 := [182, 0, 18, 42, 18, 44, 18, 46, 182, 0, 18, 42, 18, 48, 18, 50, 182, 0, 18, 42, 18, 52, 18, 16]
abbrev dktX40_init_3 : List UInt8 := dkwX40_init_3 ++ dktX40_init_4
def dkwX40_init_2 : List UInt8 := [182, 0, 18, 42, 18, 36, 18, 38, 182, 0, 18, 42, 18, 40, 18, 24, 182, 0, 18, 42, 18, 42, 18, 28]
abbrev dktX40_init_2 : List UInt8 := dkwX40_init_2 ++ dktX40_init_3
def dkwX40_init_1 : List UInt8 := [182, 0, 18, 42, 18, 26, 18, 28, 182, 0, 18, 42, 18, 30, 18, 32, 182, 0, 18, 42, 18, 34, 18, 32]
abbrev dktX40_init_1 : List UInt8 := dkwX40_init_1 ++ dktX40_init_2
def dkwX40_init_0 : List UInt8 := [42, 18, 1, 183, 0, 3, 42, 43, 181, 0, 9, 42, 18, 14, 18, 16, 182, 0, 18, 42, 18, 22, 18, 24]
abbrev dktX40_init_0 : List UInt8 := dkwX40_init_0 ++ dktX40_init_1
theorem dksX40_init_0 : cX40_init.data.toList.drop 0 = dktX40_init_0 := by decide +kernel
theorem dksX40_init_1 : cX40_init.data.toList.drop 24 = dktX40_init_1 := dk_seg dksX40_init_0 24 rfl rfl
theorem dksX40_init_2 : cX40_init.data.toList.drop 48 = dktX40_init_2 := dk_seg dksX40_init_1 24 rfl rfl
theorem dksX40_init_3 : cX40_init.data.toList.drop 72 = dktX40_init_3 := dk_seg dksX40_init_2 24 rfl rfl
theorem dksX40_init_4 : cX40_init.data.toList.drop 96 = dktX40_init_4 := dk_seg dksX40_init_3 24 rfl rfl
theorem dksX40_init_5 : cX40_init.data.toList.drop 120 = dktX40_init_5 := dk_seg dksX40_init_4 24 rfl rfl
theorem dX40_init_0 : decode cX40_init 0 = .ok (.aload_n 0, 1) := dk_42 (dk_at dksX40_init_0 0 rfl rfl)
theorem dX40_init_1 : decode cX40_init 1 = .ok (.ldc 1, 2) := dk_18 1 (dk_at dksX40_init_0 1 rfl rfl)
theorem dX40_init_3 : decode cX40_init 3 = .ok (.invokespecial 3, 3) := dk_183 0 3 (dk_at dksX40_init_0 3 rfl rfl)
theorem dX40_init_6 : decode cX40_init 6 = .ok (.aload_n 0, 1) := dk_42 (dk_at dksX40_init_0 6 rfl rfl)
theorem dX40_init_7 : decode cX40_init 7 = .ok (.aload_n 1, 1) := dk_43 (dk_at dksX40_init_0 7 rfl rfl)
theorem dX40_init_8 : decode cX40_init 8 = .ok (.putfield 9, 3) := dk_181 0 9 (dk_at dksX40_init_0 8 rfl rfl)
theorem dX40_init_11 : decode cX40_init 11 = .ok (.aload_n 0, 1) := dk_42 (dk_at dksX40_init_0 11 rfl rfl)
theorem dX40_init_12 : decode cX40_init 12 = .ok (.ldc 14, 2) := dk_18 14 (dk_at dksX40_init_0 12 rfl rfl)
theorem dX40_init_14 : decode cX40_init 14 = .ok (.ldc 16, 2) := dk_18 16 (dk_at dksX40_init_0 14 rfl rfl)
theorem dX40_init_16 : decode cX40_init 16 = .ok (.invokevirtual 18, 3) := dk_182 0 18 (dk_at dksX40_init_0 16 rfl rfl)
theorem dX40_init_19 : decode cX40_init 19 = .ok (.aload_n 0, 1) := dk_42 (dk_at dksX40_init_0 19 rfl rfl)
theorem dX40_init_20 : decode cX40_init 20 = .ok (.ldc 22, 2) := dk_18 22 (dk_at dksX40_init_0 20 rfl rfl)
theorem dX40_init_22 : decode cX40_init 22 = .ok (.ldc 24, 2) := dk_18 24 (dk_at dksX40_init_0 22 rfl rfl)
theorem dX40_init_24 : decode cX40_init 24 = .ok (.invokevirtual 18, 3) := dk_182 0 18 (dk_at dksX40_init_1 0 rfl rfl)
theorem dX40_init_27 : decode cX40_init 27 = .ok (.aload_n 0, 1) := dk_42 (dk_at dksX40_init_1 3 rfl rfl)
theorem dX40_init_28 : decode cX40_init 28 = .ok (.ldc 26, 2) := dk_18 26 (dk_at dksX40_init_1 4 rfl rfl)
theorem dX40_init_30 : decode cX40_init 30 = .ok (.ldc 28, 2) := dk_18 28 (dk_at dksX40_init_1 6 rfl rfl)
theorem dX40_init_32 : decode cX40_init 32 = .ok (.invokevirtual 18, 3) := dk_182 0 18 (dk_at dksX40_init_1 8 rfl rfl)
theorem dX40_init_35 : decode cX40_init 35 = .ok (.aload_n 0, 1) := dk_42 (dk_at dksX40_init_1 11 rfl rfl)
theorem dX40_init_36 : decode cX40_init 36 = .ok (.ldc 30, 2) := dk_18 30 (dk_at dksX40_init_1 12 rfl rfl)
theorem dX40_init_38 : decode cX40_init 38 = .ok (.ldc 32, 2) := dk_18 32 (dk_at dksX40_init_1 14 rfl rfl)
theorem dX40_init_40 : decode cX40_init 40 = .ok (.invokevirtual 18, 3) := dk_182 0 18 (dk_at dksX40_init_1 16 rfl rfl)
theorem dX40_init_43 : decode cX40_init 43 = .ok (.aload_n 0, 1) := dk_42 (dk_at dksX40_init_1 19 rfl rfl)
theorem dX40_init_44 : decode cX40_init 44 = .ok (.ldc 34, 2) := dk_18 34 (dk_at dksX40_init_1 20 rfl rfl)
theorem dX40_init_46 : decode cX40_init 46 = .ok (.ldc 32, 2) := dk_18 32 (dk_at dksX40_init_1 22 rfl rfl)
theorem dX40_init_48 : decode cX40_init 48 = .ok (.invokevirtual 18, 3) := dk_182 0 18 (dk_at dksX40_init_2 0 rfl rfl)
theorem dX40_init_51 : decode cX40_init 51 = .ok (.aload_n 0, 1) := dk_42 (dk_at dksX40_init_2 3 rfl rfl)
theorem dX40_init_52 : decode cX40_init 52 = .ok (.ldc 36, 2) := dk_18 36 (dk_at dksX40_init_2 4 rfl rfl)
theorem dX40_init_54 : decode cX40_init 54 = .ok (.ldc 38, 2) := dk_18 38 (dk_at dksX40_init_2 6 rfl rfl)
theorem dX40_init_56 : decode cX40_init 56 = .ok (.invokevirtual 18, 3) := dk_182 0 18 (dk_at dksX40_init_2 8 rfl rfl)
theorem dX40_init_59 : decode cX40_init 59 = .ok (.aload_n 0, 1) := dk_42 (dk_at dksX40_init_2 11 rfl rfl)
theorem dX40_init_60 : decode cX40_init 60 = .ok (.ldc 40, 2) := dk_18 40 (dk_at dksX40_init_2 12 rfl rfl)
theorem dX40_init_62 : decode cX40_init 62 = .ok (.ldc 24, 2) := dk_18 24 (dk_at dksX40_init_2 14 rfl rfl)
theorem dX40_init_64 : decode cX40_init 64 = .ok (.invokevirtual 18, 3) := dk_182 0 18 (dk_at dksX40_init_2 16 rfl rfl)
theorem dX40_init_67 : decode cX40_init 67 = .ok (.aload_n 0, 1) := dk_42 (dk_at dksX40_init_2 19 rfl rfl)
theorem dX40_init_68 : decode cX40_init 68 = .ok (.ldc 42, 2) := dk_18 42 (dk_at dksX40_init_2 20 rfl rfl)
theorem dX40_init_70 : decode cX40_init 70 = .ok (.ldc 28, 2) := dk_18 28 (dk_at dksX40_init_2 22 rfl rfl)
theorem dX40_init_72 : decode cX40_init 72 = .ok (.invokevirtual 18, 3) := dk_182 0 18 (dk_at dksX40_init_3 0 rfl rfl)
theorem dX40_init_75 : decode cX40_init 75 = .ok (.aload_n 0, 1) := dk_42 (dk_at dksX40_init_3 3 rfl rfl)
theorem dX40_init_76 : decode cX40_init 76 = .ok (.ldc 44, 2) := dk_18 44 (dk_at dksX40_init_3 4 rfl rfl)
theorem dX40_init_78 : decode cX40_init 78 = .ok (.ldc 46, 2) := dk_18 46 (dk_at dksX40_init_3 6 rfl rfl)
theorem dX40_init_80 : decode cX40_init 80 = .ok (.invokevirtual 18, 3) := dk_182 0 18 (dk_at dksX40_init_3 8 rfl rfl)
theorem dX40_init_83 : decode cX40_init 83 = .ok (.aload_n 0, 1) := dk_42 (dk_at dksX40_init_3 11 rfl rfl)
theorem dX40_init_84 : decode cX40_init 84 = .ok (.ldc 48, 2) := dk_18 48 (dk_at dksX40_init_3 12 rfl rfl)
theorem dX40_init_86 : decode cX40_init 86 = .ok (.ldc 50, 2) := dk_18 50 (dk_at dksX40_init_3 14 rfl rfl)
theorem dX40_init_88 : decode cX40_init 88 = .ok (.invokevirtual 18, 3) := dk_182 0 18 (dk_at dksX40_init_3 16 rfl rfl)
theorem dX40_init_91 : decode cX40_init 91 = .ok (.aload_n 0, 1) := dk_42 (dk_at dksX40_init_3 19 rfl rfl)
theorem dX40_init_92 : decode cX40_init 92 = .ok (.ldc 52, 2) := dk_18 52 (dk_at dksX40_init_3 20 rfl rfl)
theorem dX40_init_94 : decode cX40_init 94 = .ok (.ldc 16, 2) := dk_18 16 (dk_at dksX40_init_3 22 rfl rfl)
theorem dX40_init_96 : decode cX40_init 96 = .ok (.invokevirtual 18, 3) := dk_182 0 18 (dk_at dksX40_init_4 0 rfl rfl)
theorem dX40_init_99 : decode cX40_init 99 = .ok (.aload_n 0, 1) := dk_42 (dk_at dksX40_init_4 3 rfl rfl)
theorem dX40_init_100 : decode cX40_init 100 = .ok (.ldc 54, 2) := dk_18 54 (dk_at dksX40_init_4 4 rfl rfl)
theorem dX40_init_102 : decode cX40_init 102 = .ok (.ldc 56, 2) := dk_18 56 (dk_at dksX40_init_4 6 rfl rfl)
theorem dX40_init_104 : decode cX40_init 104 = .ok (.invokevirtual 18, 3) := dk_182 0 18 (dk_at dksX40_init_4 8 rfl rfl)
theorem dX40_init_107 : decode cX40_init 107 = .ok (.aload_n 0, 1) := dk_42 (dk_at dksX40_init_4 11 rfl rfl)
theorem dX40_init_108 : decode cX40_init 108 = .ok (.ldc 58, 2) := dk_18 58 (dk_at dksX40_init_4 12 rfl rfl)
theorem dX40_init_110 : decode cX40_init 110 = .ok (.ldc 28, 2) := dk_18 28 (dk_at dksX40_init_4 14 rfl rfl)
theorem dX40_init_112 : decode cX40_init 112 = .ok (.invokevirtual 18, 3) := dk_182 0 18 (dk_at dksX40_init_4 16 rfl rfl)
theorem dX40_init_115 : decode cX40_init 115 = .ok (.aload_n 0, 1) := dk_42 (dk_at dksX40_init_4 19 rfl rfl)
theorem dX40_init_116 : decode cX40_init 116 = .ok (.ldc 60, 2) := dk_18 60 (dk_at dksX40_init_4 20 rfl rfl)
theorem dX40_init_118 : decode cX40_init 118 = .ok (.ldc 32, 2) := dk_18 32 (dk_at dksX40_init_4 22 rfl rfl)
theorem dX40_init_120 : decode cX40_init 120 = .ok (.invokevirtual 18, 3) := dk_182 0 18 (dk_at dksX40_init_5 0 rfl rfl)
theorem dX40_init_123 : decode cX40_init 123 = .ok (.aload_n 0, 1) := dk_42 (dk_at dksX40_init_5 3 rfl rfl)
theorem dX40_init_124 : decode cX40_init 124 = .ok (.ldc 62, 2) := dk_18 62 (dk_at dksX40_init_5 4 rfl rfl)
theorem dX40_init_126 : decode cX40_init 126 = .ok (.ldc 38, 2) := dk_18 38 (dk_at dksX40_init_5 6 rfl rfl)
theorem dX40_init_128 : decode cX40_init 128 = .ok (.invokevirtual 18, 3) := dk_182 0 18 (dk_at dksX40_init_5 8 rfl rfl)
theorem dX40_init_131 : decode cX40_init 131 = .ok (.aload_n 0, 1) := dk_42 (dk_at dksX40_init_5 11 rfl rfl)
theorem dX40_init_132 : decode cX40_init 132 = .ok (.ldc 64, 2) := dk_18 64 (dk_at dksX40_init_5 12 rfl rfl)
theorem dX40_init_134 : decode cX40_init 134 = .ok (.ldc 24, 2) := dk_18 24 (dk_at dksX40_init_5 14 rfl rfl)
theorem dX40_init_136 : decode cX40_init 136 = .ok (.invokevirtual 18, 3) := dk_182 0 18 (dk_at dksX40_init_5 16 rfl rfl)
theorem dX40_init_139 : decode cX40_init 139 = .ok (.return_, 1) := dk_177 (dk_at dksX40_init_5 19 rfl rfl)
abbrev cX40_call : ByteArray := prog_26_method_2_code
def yX40_call : MethodName := ⟨RX40, "call", "(I[J)J"⟩
def dkwX40_call_12 : List UInt8 := [173]
abbrev dktX40_call_12 : List UInt8 := dkwX40_call_12 ++ []
def dkwX40_call_11 : List UInt8 := [180, 0, 9, 29, 21, 4, 44, 5, 47, 182, 0, 110, 133, 173, 42, 180, 0, 9, 182, 0, 113, 184, 0, 78]
abbrev dktX40_call_11 : List UInt8 := dkwX40_call_11 ++ dktX40_call_12
def dkwX40_call_10 : List UInt8 := [42, 180, 0, 9, 29, 21, 4, 21, 5, 44, 6, 47, 44, 7, 47, 182, 0, 108, 184, 0, 78, 173, 42]
abbrev dktX40_call_10 : List UInt8 := dkwX40_call_10 ++ dktX40_call_11
def dkwX40_call_9 : List UInt8 := [6, 47, 136, 44, 7, 47, 136, 182, 0, 103, 173, 42, 180, 0, 9, 29, 21, 4, 21, 5, 182, 0, 106, 173]
abbrev dktX40_call_9 : List UInt8 := dkwX40_call_9 ++ dktX40_call_10
def dkwX40_call_8 : List UInt8 := [184, 0, 78, 173, 42, 180, 0, 9, 29, 182, 0, 101, 133, 173, 42, 180, 0, 9, 29, 21, 4, 21, 5, 44]
abbrev dktX40_call_8 : List UInt8 := dkwX40_call_8 ++ dktX40_call_9
def dkwX40_call_7 : List UInt8 := [180, 0, 9, 29, 21, 4, 182, 0, 95, 173, 42, 180, 0, 9, 29, 44, 4, 47, 44, 5, 47, 182, 0, 98]
abbrev dktX40_call_7 : List UInt8 := dkwX40_call_7 ++ dktX40_call_8
def dkwX40_call_6 : List UInt8 := [42, 180, 0, 9, 182, 0, 90, 133, 173, 42, 180, 0, 9, 29, 21, 4, 21, 5, 182, 0, 92, 173, 42]
abbrev dktX40_call_6 : List UInt8 := dkwX40_call_6 ++ dktX40_call_7
def dkwX40_call_5 : List UInt8 := [182, 0, 85, 184, 0, 78, 173, 42, 180, 0, 9, 29, 21, 4, 44, 5, 47, 182, 0, 87, 184, 0, 78, 173]
abbrev dktX40_call_5 : List UInt8 := dkwX40_call_5 ++ dktX40_call_6
def dkwX40_call_4 : List UInt8 := [7, 47, 182, 0, 82, 184, 0, 78, 173, 42, 180, 0, 9, 29, 21, 4, 21, 5, 44, 6, 47, 44, 7, 47]
abbrev dktX40_call_4 : List UInt8 := dkwX40_call_4 ++ dktX40_call_5
def dkwX40_call_3 : List UInt8 := [21, 4, 21, 5, 182, 0, 74, 184, 0, 78, 173, 42, 180, 0, 9, 29, 21, 4, 21, 5, 44, 6, 47, 44]
abbrev dktX40_call_3 : List UInt8 := dkwX40_call_3 ++ dktX40_call_4
def dkwX40_call_2 : List UInt8 := [42, 180, 0, 9, 29, 182, 0, 66, 133, 173, 42, 180, 0, 9, 182, 0, 71, 133, 173, 42, 180, 0, 9, 29]
abbrev dktX40_call_2 : List UInt8 := dkwX40_call_2 ++ dktX40_call_3
def dkwX40_call_1 : List UInt8 := [170, 0, 0, 0, 1, 46, 0, 0, 0, 0, 0, 0, 0, 14, 0, 0, 0, 74, 0, 0, 0, 84, 0, 0, 0, 93, 0, 0, 0, 109, 0, 0, 0, 131, 0, 0, 0, 153, 0, 0, 0, 170, 0, 0, 0, 179, 0, 0, 0, 192, 0, 0, 0, 203, 0, 0, 0, 221, 0, 0, 0, 231, 0, 0, 0, 252, 0, 0, 1, 9, 0, 0, 1, 31]
abbrev dktX40_call_1 : List UInt8 := dkwX40_call_1 ++ dktX40_call_2
def dkwX40_call_0 : List UInt8 := [44, 3, 47, 136, 62, 44, 4, 47, 136, 54, 4, 44, 5, 47, 136, 54, 5, 27]
abbrev dktX40_call_0 : List UInt8 := dkwX40_call_0 ++ dktX40_call_1
theorem dksX40_call_0 : cX40_call.data.toList.drop 0 = dktX40_call_0 := by decide +kernel
theorem dksX40_call_1 : cX40_call.data.toList.drop 18 = dktX40_call_1 := dk_seg dksX40_call_0 18 rfl rfl
theorem dksX40_call_2 : cX40_call.data.toList.drop 92 = dktX40_call_2 := dk_seg dksX40_call_1 74 rfl rfl
theorem dksX40_call_3 : cX40_call.data.toList.drop 116 = dktX40_call_3 := dk_seg dksX40_call_2 24 rfl rfl
theorem dksX40_call_4 : cX40_call.data.toList.drop 140 = dktX40_call_4 := dk_seg dksX40_call_3 24 rfl rfl
theorem dksX40_call_5 : cX40_call.data.toList.drop 164 = dktX40_call_5 := dk_seg dksX40_call_4 24 rfl rfl
theorem dksX40_call_6 : cX40_call.data.toList.drop 188 = dktX40_call_6 := dk_seg dksX40_call_5 24 rfl rfl
theorem dksX40_call_7 : cX40_call.data.toList.drop 211 = dktX40_call_7 := dk_seg dksX40_call_6 23 rfl rfl
theorem dksX40_call_8 : cX40_call.data.toList.drop 235 = dktX40_call_8 := dk_seg dksX40_call_7 24 rfl rfl
theorem dksX40_call_9 : cX40_call.data.toList.drop 259 = dktX40_call_9 := dk_seg dksX40_call_8 24 rfl rfl
theorem dksX40_call_10 : cX40_call.data.toList.drop 283 = dktX40_call_10 := dk_seg dksX40_call_9 24 rfl rfl
theorem dksX40_call_11 : cX40_call.data.toList.drop 306 = dktX40_call_11 := dk_seg dksX40_call_10 23 rfl rfl
theorem dksX40_call_12 : cX40_call.data.toList.drop 330 = dktX40_call_12 := dk_seg dksX40_call_11 24 rfl rfl
theorem dX40_call_0 : decode cX40_call 0 = .ok (.aload_n 2, 1) := dk_44 (dk_at dksX40_call_0 0 rfl rfl)
theorem dX40_call_1 : decode cX40_call 1 = .ok (.iconst 0, 1) := dk_3 (dk_at dksX40_call_0 1 rfl rfl)
theorem dX40_call_2 : decode cX40_call 2 = .ok (.laload, 1) := dk_47 (dk_at dksX40_call_0 2 rfl rfl)
theorem dX40_call_3 : decode cX40_call 3 = .ok (.l2i, 1) := dk_136 (dk_at dksX40_call_0 3 rfl rfl)
theorem dX40_call_4 : decode cX40_call 4 = .ok (.istore_n 3, 1) := dk_62 (dk_at dksX40_call_0 4 rfl rfl)
theorem dX40_call_5 : decode cX40_call 5 = .ok (.aload_n 2, 1) := dk_44 (dk_at dksX40_call_0 5 rfl rfl)
theorem dX40_call_6 : decode cX40_call 6 = .ok (.iconst 1, 1) := dk_4 (dk_at dksX40_call_0 6 rfl rfl)
theorem dX40_call_7 : decode cX40_call 7 = .ok (.laload, 1) := dk_47 (dk_at dksX40_call_0 7 rfl rfl)
theorem dX40_call_8 : decode cX40_call 8 = .ok (.l2i, 1) := dk_136 (dk_at dksX40_call_0 8 rfl rfl)
theorem dX40_call_9 : decode cX40_call 9 = .ok (.istore 4, 2) := dk_54 4 (dk_at dksX40_call_0 9 rfl rfl)
theorem dX40_call_11 : decode cX40_call 11 = .ok (.aload_n 2, 1) := dk_44 (dk_at dksX40_call_0 11 rfl rfl)
theorem dX40_call_12 : decode cX40_call 12 = .ok (.iconst 2, 1) := dk_5 (dk_at dksX40_call_0 12 rfl rfl)
theorem dX40_call_13 : decode cX40_call 13 = .ok (.laload, 1) := dk_47 (dk_at dksX40_call_0 13 rfl rfl)
theorem dX40_call_14 : decode cX40_call 14 = .ok (.l2i, 1) := dk_136 (dk_at dksX40_call_0 14 rfl rfl)
theorem dX40_call_15 : decode cX40_call 15 = .ok (.istore 5, 2) := dk_54 5 (dk_at dksX40_call_0 15 rfl rfl)
theorem dX40_call_17 : decode cX40_call 17 = .ok (.iload_n 1, 1) := dk_27 (dk_at dksX40_call_0 17 rfl rfl)
theorem dX40_call_18 : decode cX40_call 18 = .ok (.tableswitch 302 0 14 #[74, 84, 93, 109, 131, 153, 170, 179, 192, 203, 221, 231, 252, 265, 287], 74) := by decide +kernel
theorem dX40_call_92 : decode cX40_call 92 = .ok (.aload_n 0, 1) := dk_42 (dk_at dksX40_call_2 0 rfl rfl)
theorem dX40_call_93 : decode cX40_call 93 = .ok (.getfield 9, 3) := dk_180 0 9 (dk_at dksX40_call_2 1 rfl rfl)
theorem dX40_call_96 : decode cX40_call 96 = .ok (.iload_n 3, 1) := dk_29 (dk_at dksX40_call_2 4 rfl rfl)
theorem dX40_call_97 : decode cX40_call 97 = .ok (.invokevirtual 66, 3) := dk_182 0 66 (dk_at dksX40_call_2 5 rfl rfl)
theorem dX40_call_100 : decode cX40_call 100 = .ok (.i2l, 1) := dk_133 (dk_at dksX40_call_2 8 rfl rfl)
theorem dX40_call_101 : decode cX40_call 101 = .ok (.lreturn, 1) := dk_173 (dk_at dksX40_call_2 9 rfl rfl)
theorem dX40_call_102 : decode cX40_call 102 = .ok (.aload_n 0, 1) := dk_42 (dk_at dksX40_call_2 10 rfl rfl)
theorem dX40_call_103 : decode cX40_call 103 = .ok (.getfield 9, 3) := dk_180 0 9 (dk_at dksX40_call_2 11 rfl rfl)
theorem dX40_call_106 : decode cX40_call 106 = .ok (.invokevirtual 71, 3) := dk_182 0 71 (dk_at dksX40_call_2 14 rfl rfl)
theorem dX40_call_109 : decode cX40_call 109 = .ok (.i2l, 1) := dk_133 (dk_at dksX40_call_2 17 rfl rfl)
theorem dX40_call_110 : decode cX40_call 110 = .ok (.lreturn, 1) := dk_173 (dk_at dksX40_call_2 18 rfl rfl)
theorem dX40_call_111 : decode cX40_call 111 = .ok (.aload_n 0, 1) := dk_42 (dk_at dksX40_call_2 19 rfl rfl)
theorem dX40_call_112 : decode cX40_call 112 = .ok (.getfield 9, 3) := dk_180 0 9 (dk_at dksX40_call_2 20 rfl rfl)
theorem dX40_call_115 : decode cX40_call 115 = .ok (.iload_n 3, 1) := dk_29 (dk_at dksX40_call_2 23 rfl rfl)
theorem dX40_call_116 : decode cX40_call 116 = .ok (.iload 4, 2) := dk_21 4 (dk_at dksX40_call_3 0 rfl rfl)
theorem dX40_call_118 : decode cX40_call 118 = .ok (.iload 5, 2) := dk_21 5 (dk_at dksX40_call_3 2 rfl rfl)
theorem dX40_call_120 : decode cX40_call 120 = .ok (.invokevirtual 74, 3) := dk_182 0 74 (dk_at dksX40_call_3 4 rfl rfl)
theorem dX40_call_123 : decode cX40_call 123 = .ok (.invokestatic 78, 3) := dk_184 0 78 (dk_at dksX40_call_3 7 rfl rfl)
theorem dX40_call_126 : decode cX40_call 126 = .ok (.lreturn, 1) := dk_173 (dk_at dksX40_call_3 10 rfl rfl)
theorem dX40_call_127 : decode cX40_call 127 = .ok (.aload_n 0, 1) := dk_42 (dk_at dksX40_call_3 11 rfl rfl)
theorem dX40_call_128 : decode cX40_call 128 = .ok (.getfield 9, 3) := dk_180 0 9 (dk_at dksX40_call_3 12 rfl rfl)
theorem dX40_call_131 : decode cX40_call 131 = .ok (.iload_n 3, 1) := dk_29 (dk_at dksX40_call_3 15 rfl rfl)
theorem dX40_call_132 : decode cX40_call 132 = .ok (.iload 4, 2) := dk_21 4 (dk_at dksX40_call_3 16 rfl rfl)
theorem dX40_call_134 : decode cX40_call 134 = .ok (.iload 5, 2) := dk_21 5 (dk_at dksX40_call_3 18 rfl rfl)
theorem dX40_call_136 : decode cX40_call 136 = .ok (.aload_n 2, 1) := dk_44 (dk_at dksX40_call_3 20 rfl rfl)
theorem dX40_call_137 : decode cX40_call 137 = .ok (.iconst 3, 1) := dk_6 (dk_at dksX40_call_3 21 rfl rfl)
theorem dX40_call_138 : decode cX40_call 138 = .ok (.laload, 1) := dk_47 (dk_at dksX40_call_3 22 rfl rfl)
theorem dX40_call_139 : decode cX40_call 139 = .ok (.aload_n 2, 1) := dk_44 (dk_at dksX40_call_3 23 rfl rfl)
theorem dX40_call_140 : decode cX40_call 140 = .ok (.iconst 4, 1) := dk_7 (dk_at dksX40_call_4 0 rfl rfl)
theorem dX40_call_141 : decode cX40_call 141 = .ok (.laload, 1) := dk_47 (dk_at dksX40_call_4 1 rfl rfl)
theorem dX40_call_142 : decode cX40_call 142 = .ok (.invokevirtual 82, 3) := dk_182 0 82 (dk_at dksX40_call_4 2 rfl rfl)
theorem dX40_call_145 : decode cX40_call 145 = .ok (.invokestatic 78, 3) := dk_184 0 78 (dk_at dksX40_call_4 5 rfl rfl)
theorem dX40_call_148 : decode cX40_call 148 = .ok (.lreturn, 1) := dk_173 (dk_at dksX40_call_4 8 rfl rfl)
theorem dX40_call_149 : decode cX40_call 149 = .ok (.aload_n 0, 1) := dk_42 (dk_at dksX40_call_4 9 rfl rfl)
theorem dX40_call_150 : decode cX40_call 150 = .ok (.getfield 9, 3) := dk_180 0 9 (dk_at dksX40_call_4 10 rfl rfl)
theorem dX40_call_153 : decode cX40_call 153 = .ok (.iload_n 3, 1) := dk_29 (dk_at dksX40_call_4 13 rfl rfl)
theorem dX40_call_154 : decode cX40_call 154 = .ok (.iload 4, 2) := dk_21 4 (dk_at dksX40_call_4 14 rfl rfl)
theorem dX40_call_156 : decode cX40_call 156 = .ok (.iload 5, 2) := dk_21 5 (dk_at dksX40_call_4 16 rfl rfl)
theorem dX40_call_158 : decode cX40_call 158 = .ok (.aload_n 2, 1) := dk_44 (dk_at dksX40_call_4 18 rfl rfl)
theorem dX40_call_159 : decode cX40_call 159 = .ok (.iconst 3, 1) := dk_6 (dk_at dksX40_call_4 19 rfl rfl)
theorem dX40_call_160 : decode cX40_call 160 = .ok (.laload, 1) := dk_47 (dk_at dksX40_call_4 20 rfl rfl)
theorem dX40_call_161 : decode cX40_call 161 = .ok (.aload_n 2, 1) := dk_44 (dk_at dksX40_call_4 21 rfl rfl)
theorem dX40_call_162 : decode cX40_call 162 = .ok (.iconst 4, 1) := dk_7 (dk_at dksX40_call_4 22 rfl rfl)
theorem dX40_call_163 : decode cX40_call 163 = .ok (.laload, 1) := dk_47 (dk_at dksX40_call_4 23 rfl rfl)
theorem dX40_call_164 : decode cX40_call 164 = .ok (.invokevirtual 85, 3) := dk_182 0 85 (dk_at dksX40_call_5 0 rfl rfl)
theorem dX40_call_167 : decode cX40_call 167 = .ok (.invokestatic 78, 3) := dk_184 0 78 (dk_at dksX40_call_5 3 rfl rfl)
theorem dX40_call_170 : decode cX40_call 170 = .ok (.lreturn, 1) := dk_173 (dk_at dksX40_call_5 6 rfl rfl)
theorem dX40_call_171 : decode cX40_call 171 = .ok (.aload_n 0, 1) := dk_42 (dk_at dksX40_call_5 7 rfl rfl)
theorem dX40_call_172 : decode cX40_call 172 = .ok (.getfield 9, 3) := dk_180 0 9 (dk_at dksX40_call_5 8 rfl rfl)
theorem dX40_call_175 : decode cX40_call 175 = .ok (.iload_n 3, 1) := dk_29 (dk_at dksX40_call_5 11 rfl rfl)
theorem dX40_call_176 : decode cX40_call 176 = .ok (.iload 4, 2) := dk_21 4 (dk_at dksX40_call_5 12 rfl rfl)
theorem dX40_call_178 : decode cX40_call 178 = .ok (.aload_n 2, 1) := dk_44 (dk_at dksX40_call_5 14 rfl rfl)
theorem dX40_call_179 : decode cX40_call 179 = .ok (.iconst 2, 1) := dk_5 (dk_at dksX40_call_5 15 rfl rfl)
theorem dX40_call_180 : decode cX40_call 180 = .ok (.laload, 1) := dk_47 (dk_at dksX40_call_5 16 rfl rfl)
theorem dX40_call_181 : decode cX40_call 181 = .ok (.invokevirtual 87, 3) := dk_182 0 87 (dk_at dksX40_call_5 17 rfl rfl)
theorem dX40_call_184 : decode cX40_call 184 = .ok (.invokestatic 78, 3) := dk_184 0 78 (dk_at dksX40_call_5 20 rfl rfl)
theorem dX40_call_187 : decode cX40_call 187 = .ok (.lreturn, 1) := dk_173 (dk_at dksX40_call_5 23 rfl rfl)
theorem dX40_call_188 : decode cX40_call 188 = .ok (.aload_n 0, 1) := dk_42 (dk_at dksX40_call_6 0 rfl rfl)
theorem dX40_call_189 : decode cX40_call 189 = .ok (.getfield 9, 3) := dk_180 0 9 (dk_at dksX40_call_6 1 rfl rfl)
theorem dX40_call_192 : decode cX40_call 192 = .ok (.invokevirtual 90, 3) := dk_182 0 90 (dk_at dksX40_call_6 4 rfl rfl)
theorem dX40_call_195 : decode cX40_call 195 = .ok (.i2l, 1) := dk_133 (dk_at dksX40_call_6 7 rfl rfl)
theorem dX40_call_196 : decode cX40_call 196 = .ok (.lreturn, 1) := dk_173 (dk_at dksX40_call_6 8 rfl rfl)
theorem dX40_call_197 : decode cX40_call 197 = .ok (.aload_n 0, 1) := dk_42 (dk_at dksX40_call_6 9 rfl rfl)
theorem dX40_call_198 : decode cX40_call 198 = .ok (.getfield 9, 3) := dk_180 0 9 (dk_at dksX40_call_6 10 rfl rfl)
theorem dX40_call_201 : decode cX40_call 201 = .ok (.iload_n 3, 1) := dk_29 (dk_at dksX40_call_6 13 rfl rfl)
theorem dX40_call_202 : decode cX40_call 202 = .ok (.iload 4, 2) := dk_21 4 (dk_at dksX40_call_6 14 rfl rfl)
theorem dX40_call_204 : decode cX40_call 204 = .ok (.iload 5, 2) := dk_21 5 (dk_at dksX40_call_6 16 rfl rfl)
theorem dX40_call_206 : decode cX40_call 206 = .ok (.invokevirtual 92, 3) := dk_182 0 92 (dk_at dksX40_call_6 18 rfl rfl)
theorem dX40_call_209 : decode cX40_call 209 = .ok (.lreturn, 1) := dk_173 (dk_at dksX40_call_6 21 rfl rfl)
theorem dX40_call_210 : decode cX40_call 210 = .ok (.aload_n 0, 1) := dk_42 (dk_at dksX40_call_6 22 rfl rfl)
theorem dX40_call_211 : decode cX40_call 211 = .ok (.getfield 9, 3) := dk_180 0 9 (dk_at dksX40_call_7 0 rfl rfl)
theorem dX40_call_214 : decode cX40_call 214 = .ok (.iload_n 3, 1) := dk_29 (dk_at dksX40_call_7 3 rfl rfl)
theorem dX40_call_215 : decode cX40_call 215 = .ok (.iload 4, 2) := dk_21 4 (dk_at dksX40_call_7 4 rfl rfl)
theorem dX40_call_217 : decode cX40_call 217 = .ok (.invokevirtual 95, 3) := dk_182 0 95 (dk_at dksX40_call_7 6 rfl rfl)
theorem dX40_call_220 : decode cX40_call 220 = .ok (.lreturn, 1) := dk_173 (dk_at dksX40_call_7 9 rfl rfl)
theorem dX40_call_221 : decode cX40_call 221 = .ok (.aload_n 0, 1) := dk_42 (dk_at dksX40_call_7 10 rfl rfl)
theorem dX40_call_222 : decode cX40_call 222 = .ok (.getfield 9, 3) := dk_180 0 9 (dk_at dksX40_call_7 11 rfl rfl)
theorem dX40_call_225 : decode cX40_call 225 = .ok (.iload_n 3, 1) := dk_29 (dk_at dksX40_call_7 14 rfl rfl)
theorem dX40_call_226 : decode cX40_call 226 = .ok (.aload_n 2, 1) := dk_44 (dk_at dksX40_call_7 15 rfl rfl)
theorem dX40_call_227 : decode cX40_call 227 = .ok (.iconst 1, 1) := dk_4 (dk_at dksX40_call_7 16 rfl rfl)
theorem dX40_call_228 : decode cX40_call 228 = .ok (.laload, 1) := dk_47 (dk_at dksX40_call_7 17 rfl rfl)
theorem dX40_call_229 : decode cX40_call 229 = .ok (.aload_n 2, 1) := dk_44 (dk_at dksX40_call_7 18 rfl rfl)
theorem dX40_call_230 : decode cX40_call 230 = .ok (.iconst 2, 1) := dk_5 (dk_at dksX40_call_7 19 rfl rfl)
theorem dX40_call_231 : decode cX40_call 231 = .ok (.laload, 1) := dk_47 (dk_at dksX40_call_7 20 rfl rfl)
theorem dX40_call_232 : decode cX40_call 232 = .ok (.invokevirtual 98, 3) := dk_182 0 98 (dk_at dksX40_call_7 21 rfl rfl)
theorem dX40_call_235 : decode cX40_call 235 = .ok (.invokestatic 78, 3) := dk_184 0 78 (dk_at dksX40_call_8 0 rfl rfl)
theorem dX40_call_238 : decode cX40_call 238 = .ok (.lreturn, 1) := dk_173 (dk_at dksX40_call_8 3 rfl rfl)
theorem dX40_call_239 : decode cX40_call 239 = .ok (.aload_n 0, 1) := dk_42 (dk_at dksX40_call_8 4 rfl rfl)
theorem dX40_call_240 : decode cX40_call 240 = .ok (.getfield 9, 3) := dk_180 0 9 (dk_at dksX40_call_8 5 rfl rfl)
theorem dX40_call_243 : decode cX40_call 243 = .ok (.iload_n 3, 1) := dk_29 (dk_at dksX40_call_8 8 rfl rfl)
theorem dX40_call_244 : decode cX40_call 244 = .ok (.invokevirtual 101, 3) := dk_182 0 101 (dk_at dksX40_call_8 9 rfl rfl)
theorem dX40_call_247 : decode cX40_call 247 = .ok (.i2l, 1) := dk_133 (dk_at dksX40_call_8 12 rfl rfl)
theorem dX40_call_248 : decode cX40_call 248 = .ok (.lreturn, 1) := dk_173 (dk_at dksX40_call_8 13 rfl rfl)
theorem dX40_call_249 : decode cX40_call 249 = .ok (.aload_n 0, 1) := dk_42 (dk_at dksX40_call_8 14 rfl rfl)
theorem dX40_call_250 : decode cX40_call 250 = .ok (.getfield 9, 3) := dk_180 0 9 (dk_at dksX40_call_8 15 rfl rfl)
theorem dX40_call_253 : decode cX40_call 253 = .ok (.iload_n 3, 1) := dk_29 (dk_at dksX40_call_8 18 rfl rfl)
theorem dX40_call_254 : decode cX40_call 254 = .ok (.iload 4, 2) := dk_21 4 (dk_at dksX40_call_8 19 rfl rfl)
theorem dX40_call_256 : decode cX40_call 256 = .ok (.iload 5, 2) := dk_21 5 (dk_at dksX40_call_8 21 rfl rfl)
theorem dX40_call_258 : decode cX40_call 258 = .ok (.aload_n 2, 1) := dk_44 (dk_at dksX40_call_8 23 rfl rfl)
theorem dX40_call_259 : decode cX40_call 259 = .ok (.iconst 3, 1) := dk_6 (dk_at dksX40_call_9 0 rfl rfl)
theorem dX40_call_260 : decode cX40_call 260 = .ok (.laload, 1) := dk_47 (dk_at dksX40_call_9 1 rfl rfl)
theorem dX40_call_261 : decode cX40_call 261 = .ok (.l2i, 1) := dk_136 (dk_at dksX40_call_9 2 rfl rfl)
theorem dX40_call_262 : decode cX40_call 262 = .ok (.aload_n 2, 1) := dk_44 (dk_at dksX40_call_9 3 rfl rfl)
theorem dX40_call_263 : decode cX40_call 263 = .ok (.iconst 4, 1) := dk_7 (dk_at dksX40_call_9 4 rfl rfl)
theorem dX40_call_264 : decode cX40_call 264 = .ok (.laload, 1) := dk_47 (dk_at dksX40_call_9 5 rfl rfl)
theorem dX40_call_265 : decode cX40_call 265 = .ok (.l2i, 1) := dk_136 (dk_at dksX40_call_9 6 rfl rfl)
theorem dX40_call_266 : decode cX40_call 266 = .ok (.invokevirtual 103, 3) := dk_182 0 103 (dk_at dksX40_call_9 7 rfl rfl)
theorem dX40_call_269 : decode cX40_call 269 = .ok (.lreturn, 1) := dk_173 (dk_at dksX40_call_9 10 rfl rfl)
theorem dX40_call_270 : decode cX40_call 270 = .ok (.aload_n 0, 1) := dk_42 (dk_at dksX40_call_9 11 rfl rfl)
theorem dX40_call_271 : decode cX40_call 271 = .ok (.getfield 9, 3) := dk_180 0 9 (dk_at dksX40_call_9 12 rfl rfl)
theorem dX40_call_274 : decode cX40_call 274 = .ok (.iload_n 3, 1) := dk_29 (dk_at dksX40_call_9 15 rfl rfl)
theorem dX40_call_275 : decode cX40_call 275 = .ok (.iload 4, 2) := dk_21 4 (dk_at dksX40_call_9 16 rfl rfl)
theorem dX40_call_277 : decode cX40_call 277 = .ok (.iload 5, 2) := dk_21 5 (dk_at dksX40_call_9 18 rfl rfl)
theorem dX40_call_279 : decode cX40_call 279 = .ok (.invokevirtual 106, 3) := dk_182 0 106 (dk_at dksX40_call_9 20 rfl rfl)
theorem dX40_call_282 : decode cX40_call 282 = .ok (.lreturn, 1) := dk_173 (dk_at dksX40_call_9 23 rfl rfl)
theorem dX40_call_283 : decode cX40_call 283 = .ok (.aload_n 0, 1) := dk_42 (dk_at dksX40_call_10 0 rfl rfl)
theorem dX40_call_284 : decode cX40_call 284 = .ok (.getfield 9, 3) := dk_180 0 9 (dk_at dksX40_call_10 1 rfl rfl)
theorem dX40_call_287 : decode cX40_call 287 = .ok (.iload_n 3, 1) := dk_29 (dk_at dksX40_call_10 4 rfl rfl)
theorem dX40_call_288 : decode cX40_call 288 = .ok (.iload 4, 2) := dk_21 4 (dk_at dksX40_call_10 5 rfl rfl)
theorem dX40_call_290 : decode cX40_call 290 = .ok (.iload 5, 2) := dk_21 5 (dk_at dksX40_call_10 7 rfl rfl)
theorem dX40_call_292 : decode cX40_call 292 = .ok (.aload_n 2, 1) := dk_44 (dk_at dksX40_call_10 9 rfl rfl)
theorem dX40_call_293 : decode cX40_call 293 = .ok (.iconst 3, 1) := dk_6 (dk_at dksX40_call_10 10 rfl rfl)
theorem dX40_call_294 : decode cX40_call 294 = .ok (.laload, 1) := dk_47 (dk_at dksX40_call_10 11 rfl rfl)
theorem dX40_call_295 : decode cX40_call 295 = .ok (.aload_n 2, 1) := dk_44 (dk_at dksX40_call_10 12 rfl rfl)
theorem dX40_call_296 : decode cX40_call 296 = .ok (.iconst 4, 1) := dk_7 (dk_at dksX40_call_10 13 rfl rfl)
theorem dX40_call_297 : decode cX40_call 297 = .ok (.laload, 1) := dk_47 (dk_at dksX40_call_10 14 rfl rfl)
theorem dX40_call_298 : decode cX40_call 298 = .ok (.invokevirtual 108, 3) := dk_182 0 108 (dk_at dksX40_call_10 15 rfl rfl)
theorem dX40_call_301 : decode cX40_call 301 = .ok (.invokestatic 78, 3) := dk_184 0 78 (dk_at dksX40_call_10 18 rfl rfl)
theorem dX40_call_304 : decode cX40_call 304 = .ok (.lreturn, 1) := dk_173 (dk_at dksX40_call_10 21 rfl rfl)
theorem dX40_call_305 : decode cX40_call 305 = .ok (.aload_n 0, 1) := dk_42 (dk_at dksX40_call_10 22 rfl rfl)
theorem dX40_call_306 : decode cX40_call 306 = .ok (.getfield 9, 3) := dk_180 0 9 (dk_at dksX40_call_11 0 rfl rfl)
theorem dX40_call_309 : decode cX40_call 309 = .ok (.iload_n 3, 1) := dk_29 (dk_at dksX40_call_11 3 rfl rfl)
theorem dX40_call_310 : decode cX40_call 310 = .ok (.iload 4, 2) := dk_21 4 (dk_at dksX40_call_11 4 rfl rfl)
theorem dX40_call_312 : decode cX40_call 312 = .ok (.aload_n 2, 1) := dk_44 (dk_at dksX40_call_11 6 rfl rfl)
theorem dX40_call_313 : decode cX40_call 313 = .ok (.iconst 2, 1) := dk_5 (dk_at dksX40_call_11 7 rfl rfl)
theorem dX40_call_314 : decode cX40_call 314 = .ok (.laload, 1) := dk_47 (dk_at dksX40_call_11 8 rfl rfl)
theorem dX40_call_315 : decode cX40_call 315 = .ok (.invokevirtual 110, 3) := dk_182 0 110 (dk_at dksX40_call_11 9 rfl rfl)
theorem dX40_call_318 : decode cX40_call 318 = .ok (.i2l, 1) := dk_133 (dk_at dksX40_call_11 12 rfl rfl)
theorem dX40_call_319 : decode cX40_call 319 = .ok (.lreturn, 1) := dk_173 (dk_at dksX40_call_11 13 rfl rfl)
theorem dX40_call_320 : decode cX40_call 320 = .ok (.aload_n 0, 1) := dk_42 (dk_at dksX40_call_11 14 rfl rfl)
theorem dX40_call_321 : decode cX40_call 321 = .ok (.getfield 9, 3) := dk_180 0 9 (dk_at dksX40_call_11 15 rfl rfl)
theorem dX40_call_324 : decode cX40_call 324 = .ok (.invokevirtual 113, 3) := dk_182 0 113 (dk_at dksX40_call_11 18 rfl rfl)
theorem dX40_call_327 : decode cX40_call 327 = .ok (.invokestatic 78, 3) := dk_184 0 78 (dk_at dksX40_call_11 21 rfl rfl)
theorem dX40_call_330 : decode cX40_call 330 = .ok (.lreturn, 1) := dk_173 (dk_at dksX40_call_12 0 rfl rfl)
theorem q446 : (Jvm.Cond.initialized "WasteHouse$LineRoom") ∈ lw_all := lw_g (lw_at lw_m1 54 rfl) rfl
theorem q1996 : (Jvm.Cond.selects "WasteHouse$LineRoom" ({ cls := "java/lang/Object", name := "getClass", desc := "()Ljava/lang/Class;" } : Jvm.MethodName) ({ cls := "java/lang/Object", name := "getClass", desc := "()Ljava/lang/Class;" } : Jvm.MethodName)) ∈ lw_all := lw_g (lw_at lw_m7 164 rfl) rfl
theorem q2187 : (Jvm.Cond.instantiable "WasteHouse$LineRoom" (4 : Nat)) ∈ lw_all := lw_g (lw_at lw_m8 115 rfl) rfl
theorem q2189 : (Jvm.Cond.instanceMethod ({ cls := "WasteHouse$LineRoom", name := "<init>", desc := "(LWasteHouse$ShareSolve;)V" } : Jvm.MethodName)) ∈ lw_all := lw_g (lw_at lw_m8 117 rfl) rfl
theorem q2190 : (Jvm.Cond.code ({ cls := "WasteHouse$LineRoom", name := "<init>", desc := "(LWasteHouse$ShareSolve;)V" } : Jvm.MethodName) prog_26_method_1_code (2 : Nat) (Option.none : Option Jvm.ClassFile.FieldType)) ∈ lw_all := lw_g (lw_at lw_m8 118 rfl) rfl
theorem q2191 : (Jvm.Cond.stringRef "WasteHouse$LineRoom" (1 : Nat) "line") ∈ lw_tbl := lw_at lw_m8 119 rfl
theorem q2192 : (Jvm.Cond.methodLink "WasteHouse$LineRoom" (3 : Nat) ({ cls := "WasteHouse$Room", name := "<init>", desc := "(Ljava/lang/String;)V" } : Jvm.MethodName)) ∈ lw_all := lw_g (lw_at lw_m8 120 rfl) rfl
theorem q2193 : (Jvm.Cond.stringRef "WasteHouse$LineRoom" (14 : Nat) "machine") ∈ lw_tbl := lw_at lw_m8 121 rfl
theorem q2194 : (Jvm.Cond.stringRef "WasteHouse$LineRoom" (16 : Nat) "i") ∈ lw_tbl := lw_at lw_m8 122 rfl
theorem q2195 : (Jvm.Cond.methodLink "WasteHouse$LineRoom" (18 : Nat) ({ cls := "WasteHouse$LineRoom", name := "add", desc := "(Ljava/lang/String;Ljava/lang/String;)V" } : Jvm.MethodName)) ∈ lw_all := lw_g (lw_at lw_m8 123 rfl) rfl
theorem q2196 : (Jvm.Cond.sameMethod "WasteHouse$LineRoom" "WasteHouse$Room" "add" "(Ljava/lang/String;Ljava/lang/String;)V") ∈ lw_all := lw_g (lw_at lw_m8 124 rfl) rfl
theorem q2197 : (Jvm.Cond.selects "WasteHouse$LineRoom" ({ cls := "WasteHouse$LineRoom", name := "add", desc := "(Ljava/lang/String;Ljava/lang/String;)V" } : Jvm.MethodName) ({ cls := "WasteHouse$Room", name := "add", desc := "(Ljava/lang/String;Ljava/lang/String;)V" } : Jvm.MethodName)) ∈ lw_all := lw_g (lw_at lw_m8 125 rfl) rfl
theorem q2198 : (Jvm.Cond.stringRef "WasteHouse$LineRoom" (22 : Nat) "port") ∈ lw_tbl := lw_at lw_m8 126 rfl
theorem q2199 : (Jvm.Cond.stringRef "WasteHouse$LineRoom" (24 : Nat) "") ∈ lw_tbl := lw_at lw_m8 127 rfl
theorem q2200 : (Jvm.Cond.stringRef "WasteHouse$LineRoom" (26 : Nat) "join") ∈ lw_tbl := lw_at lw_m8 128 rfl
theorem q2201 : (Jvm.Cond.stringRef "WasteHouse$LineRoom" (28 : Nat) "iii") ∈ lw_tbl := lw_at lw_m8 129 rfl
theorem q2202 : (Jvm.Cond.stringRef "WasteHouse$LineRoom" (30 : Nat) "share") ∈ lw_tbl := lw_at lw_m8 130 rfl
theorem q2203 : (Jvm.Cond.stringRef "WasteHouse$LineRoom" (32 : Nat) "iiill") ∈ lw_tbl := lw_at lw_m8 131 rfl
theorem q2204 : (Jvm.Cond.stringRef "WasteHouse$LineRoom" (34 : Nat) "crush") ∈ lw_tbl := lw_at lw_m8 132 rfl
theorem q2205 : (Jvm.Cond.stringRef "WasteHouse$LineRoom" (36 : Nat) "feed") ∈ lw_tbl := lw_at lw_m8 133 rfl
theorem q2206 : (Jvm.Cond.stringRef "WasteHouse$LineRoom" (38 : Nat) "iil") ∈ lw_tbl := lw_at lw_m8 134 rfl
theorem q2207 : (Jvm.Cond.stringRef "WasteHouse$LineRoom" (40 : Nat) "solve") ∈ lw_tbl := lw_at lw_m8 135 rfl
theorem q2208 : (Jvm.Cond.stringRef "WasteHouse$LineRoom" (42 : Nat) "out") ∈ lw_tbl := lw_at lw_m8 136 rfl
theorem q2209 : (Jvm.Cond.stringRef "WasteHouse$LineRoom" (44 : Nat) "load") ∈ lw_tbl := lw_at lw_m8 137 rfl
theorem q2210 : (Jvm.Cond.stringRef "WasteHouse$LineRoom" (46 : Nat) "ii") ∈ lw_tbl := lw_at lw_m8 138 rfl
theorem q2211 : (Jvm.Cond.stringRef "WasteHouse$LineRoom" (48 : Nat) "span") ∈ lw_tbl := lw_at lw_m8 139 rfl
theorem q2212 : (Jvm.Cond.stringRef "WasteHouse$LineRoom" (50 : Nat) "ill") ∈ lw_tbl := lw_at lw_m8 140 rfl
theorem q2213 : (Jvm.Cond.stringRef "WasteHouse$LineRoom" (52 : Nat) "over") ∈ lw_tbl := lw_at lw_m8 141 rfl
theorem q2214 : (Jvm.Cond.stringRef "WasteHouse$LineRoom" (54 : Nat) "slope") ∈ lw_tbl := lw_at lw_m8 142 rfl
theorem q2215 : (Jvm.Cond.stringRef "WasteHouse$LineRoom" (56 : Nat) "iiiii") ∈ lw_tbl := lw_at lw_m8 143 rfl
theorem q2216 : (Jvm.Cond.stringRef "WasteHouse$LineRoom" (58 : Nat) "purity") ∈ lw_tbl := lw_at lw_m8 144 rfl
theorem q2217 : (Jvm.Cond.stringRef "WasteHouse$LineRoom" (60 : Nat) "change") ∈ lw_tbl := lw_at lw_m8 145 rfl
theorem q2218 : (Jvm.Cond.stringRef "WasteHouse$LineRoom" (62 : Nat) "find") ∈ lw_tbl := lw_at lw_m8 146 rfl
theorem q2219 : (Jvm.Cond.stringRef "WasteHouse$LineRoom" (64 : Nat) "kept") ∈ lw_tbl := lw_at lw_m8 147 rfl
theorem q2220 : (Jvm.Cond.fieldLink "WasteHouse$LineRoom" (9 : Nat) "WasteHouse$LineRoom" "line" "LWasteHouse$ShareSolve;") ∈ lw_all := lw_g (lw_at lw_m8 148 rfl) rfl
theorem q2221 : (Jvm.Cond.laysFinal "WasteHouse$LineRoom" "WasteHouse$LineRoom" "line" "LWasteHouse$ShareSolve;") ∈ lw_all := lw_g (lw_at lw_m8 149 rfl) rfl
theorem q2222 : (Jvm.Cond.soleField "WasteHouse$LineRoom" "line") ∈ lw_all := lw_g (lw_at lw_m8 150 rfl) rfl
theorem q2223 : (Jvm.Cond.laysFinal "WasteHouse$LineRoom" "WasteHouse$Room" "name" "Ljava/lang/String;") ∈ lw_all := lw_g (lw_at lw_m8 151 rfl) rfl
theorem q2224 : (Jvm.Cond.laysFinal "WasteHouse$LineRoom" "WasteHouse$Room" "words" "Ljava/util/ArrayList;") ∈ lw_all := lw_g (lw_at lw_m8 152 rfl) rfl
theorem q2225 : (Jvm.Cond.laysFinal "WasteHouse$LineRoom" "WasteHouse$Room" "needs" "Ljava/util/ArrayList;") ∈ lw_all := lw_g (lw_at lw_m8 153 rfl) rfl
theorem q2226 : (Jvm.Cond.superclass "WasteHouse$LineRoom" "WasteHouse$Room") ∈ lw_all := lw_g (lw_at lw_m8 154 rfl) rfl
theorem q3061 : (Jvm.Cond.selects "WasteHouse$LineRoom" ({ cls := "WasteHouse$Room", name := "find", desc := "(Ljava/lang/String;)I" } : Jvm.MethodName) ({ cls := "WasteHouse$Room", name := "find", desc := "(Ljava/lang/String;)I" } : Jvm.MethodName)) ∈ lw_all := lw_g (lw_at lw_m12 29 rfl) rfl
theorem q3106 : (Jvm.Cond.selects "WasteHouse$LineRoom" ({ cls := "java/lang/Object", name := "equals", desc := "(Ljava/lang/Object;)Z" } : Jvm.MethodName) ({ cls := "java/lang/Object", name := "equals", desc := "(Ljava/lang/Object;)Z" } : Jvm.MethodName)) ∈ lw_all := lw_g (lw_at lw_m12 74 rfl) rfl
theorem q3175 : (Jvm.Cond.selects "WasteHouse$LineRoom" ({ cls := "WasteHouse$Room", name := "need", desc := "(I)Ljava/lang/String;" } : Jvm.MethodName) ({ cls := "WasteHouse$Room", name := "need", desc := "(I)Ljava/lang/String;" } : Jvm.MethodName)) ∈ lw_all := lw_g (lw_at lw_m12 143 rfl) rfl
theorem q3624 : (Jvm.Cond.selects "WasteHouse$LineRoom" ({ cls := "java/lang/Object", name := "hashCode", desc := "()I" } : Jvm.MethodName) ({ cls := "java/lang/Object", name := "hashCode", desc := "()I" } : Jvm.MethodName)) ∈ lw_all := lw_g (lw_at lw_m14 112 rfl) rfl
theorem q5678 : (Jvm.Cond.selects "WasteHouse$LineRoom" ({ cls := "WasteHouse$Room", name := "call", desc := "(I[J)J" } : Jvm.MethodName) ({ cls := "WasteHouse$LineRoom", name := "call", desc := "(I[J)J" } : Jvm.MethodName)) ∈ lw_all := lw_g (lw_at lw_m23 6 rfl) rfl
theorem q5679 : (Jvm.Cond.instanceMethod ({ cls := "WasteHouse$LineRoom", name := "call", desc := "(I[J)J" } : Jvm.MethodName)) ∈ lw_all := lw_g (lw_at lw_m23 7 rfl) rfl
theorem q5680 : (Jvm.Cond.code ({ cls := "WasteHouse$LineRoom", name := "call", desc := "(I[J)J" } : Jvm.MethodName) prog_26_method_2_code (6 : Nat) (Option.some Jvm.ClassFile.FieldType.long)) ∈ lw_all := lw_g (lw_at lw_m23 8 rfl) rfl
theorem q5681 : (Jvm.Cond.methodLink "WasteHouse$LineRoom" (66 : Nat) ({ cls := "WasteHouse$ShareSolve", name := "machine", desc := "(I)I" } : Jvm.MethodName)) ∈ lw_all := lw_g (lw_at lw_m23 9 rfl) rfl
theorem q5685 : (Jvm.Cond.methodLink "WasteHouse$LineRoom" (71 : Nat) ({ cls := "WasteHouse$ShareSolve", name := "port", desc := "()I" } : Jvm.MethodName)) ∈ lw_all := lw_g (lw_at lw_m23 13 rfl) rfl
theorem q5689 : (Jvm.Cond.methodLink "WasteHouse$LineRoom" (74 : Nat) ({ cls := "WasteHouse$ShareSolve", name := "joinOut", desc := "(III)Z" } : Jvm.MethodName)) ∈ lw_all := lw_g (lw_at lw_m23 17 rfl) rfl
theorem q5693 : (Jvm.Cond.methodLink "WasteHouse$LineRoom" (78 : Nat) ({ cls := "WasteHouse$LineRoom", name := "bit", desc := "(Z)J" } : Jvm.MethodName)) ∈ lw_all := lw_g (lw_at lw_m23 21 rfl) rfl
theorem q5694 : (Jvm.Cond.sameMethod "WasteHouse$LineRoom" "WasteHouse$Room" "bit" "(Z)J") ∈ lw_all := lw_g (lw_at lw_m23 22 rfl) rfl
theorem q5695 : (Jvm.Cond.methodLink "WasteHouse$LineRoom" (82 : Nat) ({ cls := "WasteHouse$ShareSolve", name := "share", desc := "(IIIJJ)Z" } : Jvm.MethodName)) ∈ lw_all := lw_g (lw_at lw_m23 23 rfl) rfl
theorem q5704 : (Jvm.Cond.methodLink "WasteHouse$LineRoom" (85 : Nat) ({ cls := "WasteHouse$ShareSolve", name := "crush", desc := "(IIIJJ)Z" } : Jvm.MethodName)) ∈ lw_all := lw_g (lw_at lw_m23 32 rfl) rfl
theorem q5708 : (Jvm.Cond.methodLink "WasteHouse$LineRoom" (87 : Nat) ({ cls := "WasteHouse$ShareSolve", name := "feed", desc := "(IIJ)Z" } : Jvm.MethodName)) ∈ lw_all := lw_g (lw_at lw_m23 36 rfl) rfl
theorem q5709 : (Jvm.Cond.methodLink "WasteHouse$LineRoom" (90 : Nat) ({ cls := "WasteHouse$ShareSolve", name := "solve", desc := "()I" } : Jvm.MethodName)) ∈ lw_all := lw_g (lw_at lw_m23 37 rfl) rfl
theorem q5710 : (Jvm.Cond.methodLink "WasteHouse$LineRoom" (92 : Nat) ({ cls := "WasteHouse$ShareSolve", name := "out", desc := "(III)J" } : Jvm.MethodName)) ∈ lw_all := lw_g (lw_at lw_m23 38 rfl) rfl
theorem q5711 : (Jvm.Cond.methodLink "WasteHouse$LineRoom" (95 : Nat) ({ cls := "WasteHouse$ShareSolve", name := "load", desc := "(II)J" } : Jvm.MethodName)) ∈ lw_all := lw_g (lw_at lw_m23 39 rfl) rfl
theorem q5723 : (Jvm.Cond.methodLink "WasteHouse$LineRoom" (98 : Nat) ({ cls := "WasteHouse$ShareSolve", name := "span", desc := "(IJJ)Z" } : Jvm.MethodName)) ∈ lw_all := lw_g (lw_at lw_m23 51 rfl) rfl
theorem q5728 : (Jvm.Cond.methodLink "WasteHouse$LineRoom" (101 : Nat) ({ cls := "WasteHouse$ShareSolve", name := "over", desc := "(I)I" } : Jvm.MethodName)) ∈ lw_all := lw_g (lw_at lw_m23 56 rfl) rfl
theorem q5737 : (Jvm.Cond.methodLink "WasteHouse$LineRoom" (103 : Nat) ({ cls := "WasteHouse$ShareSolve", name := "slope", desc := "(IIIII)J" } : Jvm.MethodName)) ∈ lw_all := lw_g (lw_at lw_m23 65 rfl) rfl
theorem q5754 : (Jvm.Cond.methodLink "WasteHouse$LineRoom" (106 : Nat) ({ cls := "WasteHouse$ShareSolve", name := "purity", desc := "(III)J" } : Jvm.MethodName)) ∈ lw_all := lw_g (lw_at lw_m23 82 rfl) rfl
theorem q5758 : (Jvm.Cond.methodLink "WasteHouse$LineRoom" (108 : Nat) ({ cls := "WasteHouse$ShareSolve", name := "change", desc := "(IIIJJ)Z" } : Jvm.MethodName)) ∈ lw_all := lw_g (lw_at lw_m23 86 rfl) rfl
theorem q5764 : (Jvm.Cond.methodLink "WasteHouse$LineRoom" (110 : Nat) ({ cls := "WasteHouse$ShareSolve", name := "find", desc := "(IIJ)I" } : Jvm.MethodName)) ∈ lw_all := lw_g (lw_at lw_m23 92 rfl) rfl
theorem q5772 : (Jvm.Cond.methodLink "WasteHouse$LineRoom" (113 : Nat) ({ cls := "WasteHouse$ShareSolve", name := "kept", desc := "()Z" } : Jvm.MethodName)) ∈ lw_all := lw_g (lw_at lw_m23 100 rfl) rfl
theorem q9612 : (Jvm.Cond.castable "WasteHouse$LineRoom" "WasteHouse$Room") ∈ lw_tbl := lw_at lw_m39 100 rfl
theorem q9663 : (Jvm.Cond.castable "WasteHouse$LineRoom" "java/lang/Object") ∈ lw_tbl := lw_at lw_m39 151 rfl
theorem in_X40 : ∀ w ∈ wsX400, w ∈ lw_all := lw_in wsX400 [2223, 2224, 2225, 2221] (by decide +kernel) (by decide +kernel)
