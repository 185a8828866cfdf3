/-! WasteHouse$ProductRoom -/
set_option maxRecDepth 100000
def RX44 : String := "WasteHouse$ProductRoom"
def TX44 : u_T := fun k => match k with
  | 0 => ("WasteHouse$Room", "name", "Ljava/lang/String;", true)
  | 1 => ("WasteHouse$Room", "words", "Ljava/util/ArrayList;", true)
  | 2 => ("WasteHouse$Room", "needs", "Ljava/util/ArrayList;", true)
  | _ => ("WasteHouse$ProductRoom", "graph", "LWasteHouse$PartGraphs;", true)
def tyX44 : Nat → FieldType := fun k => match k with
  | 0 => .object "java/lang/String"
  | 1 => .object "java/util/ArrayList"
  | 2 => .object "java/util/ArrayList"
  | _ => .object "WasteHouse$PartGraphs"
abbrev wsX440 : List Cond := u_ws RX44 TX44 4
theorem nmX44 : ∀ a, a < 4 → ∀ b, b < 4 → a ≠ b → (TX44 a).2.1 ≠ (TX44 b).2.1 := by decide +kernel
theorem tyX44_ok : ∀ k, k < 4 → parseFieldDescriptor (TX44 k).2.2.1 = some (tyX44 k) := by decide +kernel
abbrev cX44_init : ByteArray := prog_31_method_1_code
def yX44_init : MethodName := ⟨RX44, "<init>", "(LWasteHouse$PartGraphs;)V"⟩
def dkwX44_init_6 : List UInt8 := [182, 0, 19, 42, 18, 63, 18, 65, 182, 0, 19, 177]
abbrev dktX44_init_6 : List UInt8 := dkwX44_init_6 ++ []
def dkwX44_init_5 : List UInt8 := [182, 0, 19, 42, 18, 57, 18, 25, 182, 0, 19, 42, 18, 59, 18, 25, 182, 0, 19, 42, 18, 61, 18, 41]
abbrev dktX44_init_5 : List UInt8 := dkwX44_init_5 ++ dktX44_init_6
def dkwX44_init_4 : List UInt8 := [182, 0, 19, 42, 18, 51, 18, 41, 182, 0, 19, 42, 18, 53, 18, 33, 182, 0, 19, 42, 18, 55, 18, 33]
abbrev dktX44_init_4 : List UInt8 := dkwX44_init_4 ++ dktX44_init_5
def dkwX44_init_3 : List UInt8 := [182, 0, 19, 42, 18, 45, 18, 33, 182, 0, 19, 42, 18, 47, 18, 29, 182, 0, 19, 42, 18, 49, 18, 33]
abbrev dktX44_init_3 : List UInt8 := dkwX44_init_3 ++ dktX44_init_4
def dkwX44_init_2 : List UInt8 := [182, 0, 19, 42, 18, 37, 18, 33, 182, 0, 19, 42, 18, 39, 18, 41, 182, 0, 19, 42, 18, 43, 18, 33]
abbrev dktX44_init_2 : List UInt8 := dkwX44_init_2 ++ dktX44_init_3
def dkwX44_init_1 : List UInt8 := [182, 0, 19, 42, 18, 27, 18, 29, 182, 0, 19, 42, 18, 31, 18, 33, 182, 0, 19, 42, 18, 35, 18, 29]
abbrev dktX44_init_1 : List UInt8 := dkwX44_init_1 ++ dktX44_init_2
def dkwX44_init_0 : List UInt8 := [42, 18, 1, 183, 0, 3, 42, 43, 181, 0, 9, 42, 18, 15, 18, 17, 182, 0, 19, 42, 18, 23, 18, 25]
abbrev dktX44_init_0 : List UInt8 := dkwX44_init_0 ++ dktX44_init_1
theorem dksX44_init_0 : cX44_init.data.toList.drop 0 = dktX44_init_0 := by decide +kernel
theorem dksX44_init_1 : cX44_init.data.toList.drop 24 = dktX44_init_1 := dk_seg dksX44_init_0 24 rfl rfl
theorem dksX44_init_2 : cX44_init.data.toList.drop 48 = dktX44_init_2 := dk_seg dksX44_init_1 24 rfl rfl
theorem dksX44_init_3 : cX44_init.data.toList.drop 72 = dktX44_init_3 := dk_seg dksX44_init_2 24 rfl rfl
theorem dksX44_init_4 : cX44_init.data.toList.drop 96 = dktX44_init_4 := dk_seg dksX44_init_3 24 rfl rfl
theorem dksX44_init_5 : cX44_init.data.toList.drop 120 = dktX44_init_5 := dk_seg dksX44_init_4 24 rfl rfl
theorem dksX44_init_6 : cX44_init.data.toList.drop 144 = dktX44_init_6 := dk_seg dksX44_init_5 24 rfl rfl
theorem dX44_init_0 : decode cX44_init 0 = .ok (.aload_n 0, 1) := dk_42 (dk_at dksX44_init_0 0 rfl rfl)
theorem dX44_init_1 : decode cX44_init 1 = .ok (.ldc 1, 2) := dk_18 1 (dk_at dksX44_init_0 1 rfl rfl)
theorem dX44_init_3 : decode cX44_init 3 = .ok (.invokespecial 3, 3) := dk_183 0 3 (dk_at dksX44_init_0 3 rfl rfl)
theorem dX44_init_6 : decode cX44_init 6 = .ok (.aload_n 0, 1) := dk_42 (dk_at dksX44_init_0 6 rfl rfl)
theorem dX44_init_7 : decode cX44_init 7 = .ok (.aload_n 1, 1) := dk_43 (dk_at dksX44_init_0 7 rfl rfl)
theorem dX44_init_8 : decode cX44_init 8 = .ok (.putfield 9, 3) := dk_181 0 9 (dk_at dksX44_init_0 8 rfl rfl)
theorem dX44_init_11 : decode cX44_init 11 = .ok (.aload_n 0, 1) := dk_42 (dk_at dksX44_init_0 11 rfl rfl)
theorem dX44_init_12 : decode cX44_init 12 = .ok (.ldc 15, 2) := dk_18 15 (dk_at dksX44_init_0 12 rfl rfl)
theorem dX44_init_14 : decode cX44_init 14 = .ok (.ldc 17, 2) := dk_18 17 (dk_at dksX44_init_0 14 rfl rfl)
theorem dX44_init_16 : decode cX44_init 16 = .ok (.invokevirtual 19, 3) := dk_182 0 19 (dk_at dksX44_init_0 16 rfl rfl)
theorem dX44_init_19 : decode cX44_init 19 = .ok (.aload_n 0, 1) := dk_42 (dk_at dksX44_init_0 19 rfl rfl)
theorem dX44_init_20 : decode cX44_init 20 = .ok (.ldc 23, 2) := dk_18 23 (dk_at dksX44_init_0 20 rfl rfl)
theorem dX44_init_22 : decode cX44_init 22 = .ok (.ldc 25, 2) := dk_18 25 (dk_at dksX44_init_0 22 rfl rfl)
theorem dX44_init_24 : decode cX44_init 24 = .ok (.invokevirtual 19, 3) := dk_182 0 19 (dk_at dksX44_init_1 0 rfl rfl)
theorem dX44_init_27 : decode cX44_init 27 = .ok (.aload_n 0, 1) := dk_42 (dk_at dksX44_init_1 3 rfl rfl)
theorem dX44_init_28 : decode cX44_init 28 = .ok (.ldc 27, 2) := dk_18 27 (dk_at dksX44_init_1 4 rfl rfl)
theorem dX44_init_30 : decode cX44_init 30 = .ok (.ldc 29, 2) := dk_18 29 (dk_at dksX44_init_1 6 rfl rfl)
theorem dX44_init_32 : decode cX44_init 32 = .ok (.invokevirtual 19, 3) := dk_182 0 19 (dk_at dksX44_init_1 8 rfl rfl)
theorem dX44_init_35 : decode cX44_init 35 = .ok (.aload_n 0, 1) := dk_42 (dk_at dksX44_init_1 11 rfl rfl)
theorem dX44_init_36 : decode cX44_init 36 = .ok (.ldc 31, 2) := dk_18 31 (dk_at dksX44_init_1 12 rfl rfl)
theorem dX44_init_38 : decode cX44_init 38 = .ok (.ldc 33, 2) := dk_18 33 (dk_at dksX44_init_1 14 rfl rfl)
theorem dX44_init_40 : decode cX44_init 40 = .ok (.invokevirtual 19, 3) := dk_182 0 19 (dk_at dksX44_init_1 16 rfl rfl)
theorem dX44_init_43 : decode cX44_init 43 = .ok (.aload_n 0, 1) := dk_42 (dk_at dksX44_init_1 19 rfl rfl)
theorem dX44_init_44 : decode cX44_init 44 = .ok (.ldc 35, 2) := dk_18 35 (dk_at dksX44_init_1 20 rfl rfl)
theorem dX44_init_46 : decode cX44_init 46 = .ok (.ldc 29, 2) := dk_18 29 (dk_at dksX44_init_1 22 rfl rfl)
theorem dX44_init_48 : decode cX44_init 48 = .ok (.invokevirtual 19, 3) := dk_182 0 19 (dk_at dksX44_init_2 0 rfl rfl)
theorem dX44_init_51 : decode cX44_init 51 = .ok (.aload_n 0, 1) := dk_42 (dk_at dksX44_init_2 3 rfl rfl)
theorem dX44_init_52 : decode cX44_init 52 = .ok (.ldc 37, 2) := dk_18 37 (dk_at dksX44_init_2 4 rfl rfl)
theorem dX44_init_54 : decode cX44_init 54 = .ok (.ldc 33, 2) := dk_18 33 (dk_at dksX44_init_2 6 rfl rfl)
theorem dX44_init_56 : decode cX44_init 56 = .ok (.invokevirtual 19, 3) := dk_182 0 19 (dk_at dksX44_init_2 8 rfl rfl)
theorem dX44_init_59 : decode cX44_init 59 = .ok (.aload_n 0, 1) := dk_42 (dk_at dksX44_init_2 11 rfl rfl)
theorem dX44_init_60 : decode cX44_init 60 = .ok (.ldc 39, 2) := dk_18 39 (dk_at dksX44_init_2 12 rfl rfl)
theorem dX44_init_62 : decode cX44_init 62 = .ok (.ldc 41, 2) := dk_18 41 (dk_at dksX44_init_2 14 rfl rfl)
theorem dX44_init_64 : decode cX44_init 64 = .ok (.invokevirtual 19, 3) := dk_182 0 19 (dk_at dksX44_init_2 16 rfl rfl)
theorem dX44_init_67 : decode cX44_init 67 = .ok (.aload_n 0, 1) := dk_42 (dk_at dksX44_init_2 19 rfl rfl)
theorem dX44_init_68 : decode cX44_init 68 = .ok (.ldc 43, 2) := dk_18 43 (dk_at dksX44_init_2 20 rfl rfl)
theorem dX44_init_70 : decode cX44_init 70 = .ok (.ldc 33, 2) := dk_18 33 (dk_at dksX44_init_2 22 rfl rfl)
theorem dX44_init_72 : decode cX44_init 72 = .ok (.invokevirtual 19, 3) := dk_182 0 19 (dk_at dksX44_init_3 0 rfl rfl)
theorem dX44_init_75 : decode cX44_init 75 = .ok (.aload_n 0, 1) := dk_42 (dk_at dksX44_init_3 3 rfl rfl)
theorem dX44_init_76 : decode cX44_init 76 = .ok (.ldc 45, 2) := dk_18 45 (dk_at dksX44_init_3 4 rfl rfl)
theorem dX44_init_78 : decode cX44_init 78 = .ok (.ldc 33, 2) := dk_18 33 (dk_at dksX44_init_3 6 rfl rfl)
theorem dX44_init_80 : decode cX44_init 80 = .ok (.invokevirtual 19, 3) := dk_182 0 19 (dk_at dksX44_init_3 8 rfl rfl)
theorem dX44_init_83 : decode cX44_init 83 = .ok (.aload_n 0, 1) := dk_42 (dk_at dksX44_init_3 11 rfl rfl)
theorem dX44_init_84 : decode cX44_init 84 = .ok (.ldc 47, 2) := dk_18 47 (dk_at dksX44_init_3 12 rfl rfl)
theorem dX44_init_86 : decode cX44_init 86 = .ok (.ldc 29, 2) := dk_18 29 (dk_at dksX44_init_3 14 rfl rfl)
theorem dX44_init_88 : decode cX44_init 88 = .ok (.invokevirtual 19, 3) := dk_182 0 19 (dk_at dksX44_init_3 16 rfl rfl)
theorem dX44_init_91 : decode cX44_init 91 = .ok (.aload_n 0, 1) := dk_42 (dk_at dksX44_init_3 19 rfl rfl)
theorem dX44_init_92 : decode cX44_init 92 = .ok (.ldc 49, 2) := dk_18 49 (dk_at dksX44_init_3 20 rfl rfl)
theorem dX44_init_94 : decode cX44_init 94 = .ok (.ldc 33, 2) := dk_18 33 (dk_at dksX44_init_3 22 rfl rfl)
theorem dX44_init_96 : decode cX44_init 96 = .ok (.invokevirtual 19, 3) := dk_182 0 19 (dk_at dksX44_init_4 0 rfl rfl)
theorem dX44_init_99 : decode cX44_init 99 = .ok (.aload_n 0, 1) := dk_42 (dk_at dksX44_init_4 3 rfl rfl)
theorem dX44_init_100 : decode cX44_init 100 = .ok (.ldc 51, 2) := dk_18 51 (dk_at dksX44_init_4 4 rfl rfl)
theorem dX44_init_102 : decode cX44_init 102 = .ok (.ldc 41, 2) := dk_18 41 (dk_at dksX44_init_4 6 rfl rfl)
theorem dX44_init_104 : decode cX44_init 104 = .ok (.invokevirtual 19, 3) := dk_182 0 19 (dk_at dksX44_init_4 8 rfl rfl)
theorem dX44_init_107 : decode cX44_init 107 = .ok (.aload_n 0, 1) := dk_42 (dk_at dksX44_init_4 11 rfl rfl)
theorem dX44_init_108 : decode cX44_init 108 = .ok (.ldc 53, 2) := dk_18 53 (dk_at dksX44_init_4 12 rfl rfl)
theorem dX44_init_110 : decode cX44_init 110 = .ok (.ldc 33, 2) := dk_18 33 (dk_at dksX44_init_4 14 rfl rfl)
theorem dX44_init_112 : decode cX44_init 112 = .ok (.invokevirtual 19, 3) := dk_182 0 19 (dk_at dksX44_init_4 16 rfl rfl)
theorem dX44_init_115 : decode cX44_init 115 = .ok (.aload_n 0, 1) := dk_42 (dk_at dksX44_init_4 19 rfl rfl)
theorem dX44_init_116 : decode cX44_init 116 = .ok (.ldc 55, 2) := dk_18 55 (dk_at dksX44_init_4 20 rfl rfl)
theorem dX44_init_118 : decode cX44_init 118 = .ok (.ldc 33, 2) := dk_18 33 (dk_at dksX44_init_4 22 rfl rfl)
theorem dX44_init_120 : decode cX44_init 120 = .ok (.invokevirtual 19, 3) := dk_182 0 19 (dk_at dksX44_init_5 0 rfl rfl)
theorem dX44_init_123 : decode cX44_init 123 = .ok (.aload_n 0, 1) := dk_42 (dk_at dksX44_init_5 3 rfl rfl)
theorem dX44_init_124 : decode cX44_init 124 = .ok (.ldc 57, 2) := dk_18 57 (dk_at dksX44_init_5 4 rfl rfl)
theorem dX44_init_126 : decode cX44_init 126 = .ok (.ldc 25, 2) := dk_18 25 (dk_at dksX44_init_5 6 rfl rfl)
theorem dX44_init_128 : decode cX44_init 128 = .ok (.invokevirtual 19, 3) := dk_182 0 19 (dk_at dksX44_init_5 8 rfl rfl)
theorem dX44_init_131 : decode cX44_init 131 = .ok (.aload_n 0, 1) := dk_42 (dk_at dksX44_init_5 11 rfl rfl)
theorem dX44_init_132 : decode cX44_init 132 = .ok (.ldc 59, 2) := dk_18 59 (dk_at dksX44_init_5 12 rfl rfl)
theorem dX44_init_134 : decode cX44_init 134 = .ok (.ldc 25, 2) := dk_18 25 (dk_at dksX44_init_5 14 rfl rfl)
theorem dX44_init_136 : decode cX44_init 136 = .ok (.invokevirtual 19, 3) := dk_182 0 19 (dk_at dksX44_init_5 16 rfl rfl)
theorem dX44_init_139 : decode cX44_init 139 = .ok (.aload_n 0, 1) := dk_42 (dk_at dksX44_init_5 19 rfl rfl)
theorem dX44_init_140 : decode cX44_init 140 = .ok (.ldc 61, 2) := dk_18 61 (dk_at dksX44_init_5 20 rfl rfl)
theorem dX44_init_142 : decode cX44_init 142 = .ok (.ldc 41, 2) := dk_18 41 (dk_at dksX44_init_5 22 rfl rfl)
theorem dX44_init_144 : decode cX44_init 144 = .ok (.invokevirtual 19, 3) := dk_182 0 19 (dk_at dksX44_init_6 0 rfl rfl)
theorem dX44_init_147 : decode cX44_init 147 = .ok (.aload_n 0, 1) := dk_42 (dk_at dksX44_init_6 3 rfl rfl)
theorem dX44_init_148 : decode cX44_init 148 = .ok (.ldc 63, 2) := dk_18 63 (dk_at dksX44_init_6 4 rfl rfl)
theorem dX44_init_150 : decode cX44_init 150 = .ok (.ldc 65, 2) := dk_18 65 (dk_at dksX44_init_6 6 rfl rfl)
theorem dX44_init_152 : decode cX44_init 152 = .ok (.invokevirtual 19, 3) := dk_182 0 19 (dk_at dksX44_init_6 8 rfl rfl)
theorem dX44_init_155 : decode cX44_init 155 = .ok (.return_, 1) := dk_177 (dk_at dksX44_init_6 11 rfl rfl)
abbrev cX44_call : ByteArray := prog_31_method_2_code
def yX44_call : MethodName := ⟨RX44, "call", "(I[J)J"⟩
def dkwX44_call_11 : List UInt8 := [173, 42, 180, 0, 9, 29, 182, 0, 114, 133, 173, 42, 180, 0, 9, 182, 0, 116, 133, 173]
abbrev dktX44_call_11 : List UInt8 := dkwX44_call_11 ++ []
def dkwX44_call_10 : List UInt8 := [44, 4, 47, 182, 0, 109, 184, 0, 81, 173, 42, 180, 0, 9, 29, 44, 4, 47, 182, 0, 112, 184, 0, 81]
abbrev dktX44_call_10 : List UInt8 := dkwX44_call_10 ++ dktX44_call_11
def dkwX44_call_9 : List UInt8 := [182, 0, 105, 184, 0, 81, 173, 42, 180, 0, 9, 29, 21, 4, 182, 0, 107, 133, 173, 42, 180, 0, 9, 29]
abbrev dktX44_call_9 : List UInt8 := dkwX44_call_9 ++ dktX44_call_10
def dkwX44_call_8 : List UInt8 := [21, 4, 182, 0, 100, 133, 173, 42, 180, 0, 9, 29, 182, 0, 102, 173, 42, 180, 0, 9, 29, 21, 4]
abbrev dktX44_call_8 : List UInt8 := dkwX44_call_8 ++ dktX44_call_9
def dkwX44_call_7 : List UInt8 := [173, 42, 180, 0, 9, 29, 21, 4, 44, 5, 47, 136, 182, 0, 98, 184, 0, 81, 173, 42, 180, 0, 9, 29]
abbrev dktX44_call_7 : List UInt8 := dkwX44_call_7 ++ dktX44_call_8
def dkwX44_call_6 : List UInt8 := [180, 0, 9, 29, 21, 4, 182, 0, 94, 184, 0, 81, 173, 42, 180, 0, 9, 29, 21, 4, 182, 0, 96, 133]
abbrev dktX44_call_6 : List UInt8 := dkwX44_call_6 ++ dktX44_call_7
def dkwX44_call_5 : List UInt8 := [173, 42, 180, 0, 9, 29, 21, 4, 182, 0, 88, 133, 173, 42, 180, 0, 9, 29, 182, 0, 91, 133, 173, 42]
abbrev dktX44_call_5 : List UInt8 := dkwX44_call_5 ++ dktX44_call_6
def dkwX44_call_4 : List UInt8 := [182, 0, 78, 184, 0, 81, 173, 42, 180, 0, 9, 29, 21, 4, 44, 5, 47, 136, 182, 0, 85, 184, 0, 81]
abbrev dktX44_call_4 : List UInt8 := dkwX44_call_4 ++ dktX44_call_5
def dkwX44_call_3 : List UInt8 := [180, 0, 9, 29, 21, 4, 44, 5, 47, 136, 182, 0, 75, 133, 173, 42, 180, 0, 9, 29, 21, 4]
abbrev dktX44_call_3 : List UInt8 := dkwX44_call_3 ++ dktX44_call_4
def dkwX44_call_2 : List UInt8 := [42, 180, 0, 9, 182, 0, 67, 133, 173, 42, 180, 0, 9, 29, 44, 4, 47, 182, 0, 72, 133, 173, 42]
abbrev dktX44_call_2 : List UInt8 := dkwX44_call_2 ++ dktX44_call_3
def dkwX44_call_1 : List UInt8 := [170, 0, 0, 0, 0, 0, 1, 51, 0, 0, 0, 0, 0, 0, 0, 16, 0, 0, 0, 84, 0, 0, 0, 93, 0, 0, 0, 106, 0, 0, 0, 122, 0, 0, 0, 136, 0, 0, 0, 154, 0, 0, 0, 166, 0, 0, 0, 176, 0, 0, 0, 190, 0, 0, 0, 202, 0, 0, 0, 220, 0, 0, 0, 232, 0, 0, 0, 241, 0, 0, 0, 255, 0, 0, 1, 11, 0, 0, 1, 26, 0, 0, 1, 41]
abbrev dktX44_call_1 : List UInt8 := dkwX44_call_1 ++ dktX44_call_2
def dkwX44_call_0 : List UInt8 := [44, 3, 47, 136, 62, 44, 4, 47, 136, 54, 4, 27]
abbrev dktX44_call_0 : List UInt8 := dkwX44_call_0 ++ dktX44_call_1
theorem dksX44_call_0 : cX44_call.data.toList.drop 0 = dktX44_call_0 := by decide +kernel
theorem dksX44_call_1 : cX44_call.data.toList.drop 12 = dktX44_call_1 := dk_seg dksX44_call_0 12 rfl rfl
theorem dksX44_call_2 : cX44_call.data.toList.drop 96 = dktX44_call_2 := dk_seg dksX44_call_1 84 rfl rfl
theorem dksX44_call_3 : cX44_call.data.toList.drop 119 = dktX44_call_3 := dk_seg dksX44_call_2 23 rfl rfl
theorem dksX44_call_4 : cX44_call.data.toList.drop 141 = dktX44_call_4 := dk_seg dksX44_call_3 22 rfl rfl
theorem dksX44_call_5 : cX44_call.data.toList.drop 165 = dktX44_call_5 := dk_seg dksX44_call_4 24 rfl rfl
theorem dksX44_call_6 : cX44_call.data.toList.drop 189 = dktX44_call_6 := dk_seg dksX44_call_5 24 rfl rfl
theorem dksX44_call_7 : cX44_call.data.toList.drop 213 = dktX44_call_7 := dk_seg dksX44_call_6 24 rfl rfl
theorem dksX44_call_8 : cX44_call.data.toList.drop 237 = dktX44_call_8 := dk_seg dksX44_call_7 24 rfl rfl
theorem dksX44_call_9 : cX44_call.data.toList.drop 260 = dktX44_call_9 := dk_seg dksX44_call_8 23 rfl rfl
theorem dksX44_call_10 : cX44_call.data.toList.drop 284 = dktX44_call_10 := dk_seg dksX44_call_9 24 rfl rfl
theorem dksX44_call_11 : cX44_call.data.toList.drop 308 = dktX44_call_11 := dk_seg dksX44_call_10 24 rfl rfl
theorem dX44_call_0 : decode cX44_call 0 = .ok (.aload_n 2, 1) := dk_44 (dk_at dksX44_call_0 0 rfl rfl)
theorem dX44_call_1 : decode cX44_call 1 = .ok (.iconst 0, 1) := dk_3 (dk_at dksX44_call_0 1 rfl rfl)
theorem dX44_call_2 : decode cX44_call 2 = .ok (.laload, 1) := dk_47 (dk_at dksX44_call_0 2 rfl rfl)
theorem dX44_call_3 : decode cX44_call 3 = .ok (.l2i, 1) := dk_136 (dk_at dksX44_call_0 3 rfl rfl)
theorem dX44_call_4 : decode cX44_call 4 = .ok (.istore_n 3, 1) := dk_62 (dk_at dksX44_call_0 4 rfl rfl)
theorem dX44_call_5 : decode cX44_call 5 = .ok (.aload_n 2, 1) := dk_44 (dk_at dksX44_call_0 5 rfl rfl)
theorem dX44_call_6 : decode cX44_call 6 = .ok (.iconst 1, 1) := dk_4 (dk_at dksX44_call_0 6 rfl rfl)
theorem dX44_call_7 : decode cX44_call 7 = .ok (.laload, 1) := dk_47 (dk_at dksX44_call_0 7 rfl rfl)
theorem dX44_call_8 : decode cX44_call 8 = .ok (.l2i, 1) := dk_136 (dk_at dksX44_call_0 8 rfl rfl)
theorem dX44_call_9 : decode cX44_call 9 = .ok (.istore 4, 2) := dk_54 4 (dk_at dksX44_call_0 9 rfl rfl)
theorem dX44_call_11 : decode cX44_call 11 = .ok (.iload_n 1, 1) := dk_27 (dk_at dksX44_call_0 11 rfl rfl)
theorem dX44_call_12 : decode cX44_call 12 = .ok (.tableswitch 307 0 16 #[84, 93, 106, 122, 136, 154, 166, 176, 190, 202, 220, 232, 241, 255, 267, 282, 297], 84) := by decide +kernel
theorem dX44_call_96 : decode cX44_call 96 = .ok (.aload_n 0, 1) := dk_42 (dk_at dksX44_call_2 0 rfl rfl)
theorem dX44_call_97 : decode cX44_call 97 = .ok (.getfield 9, 3) := dk_180 0 9 (dk_at dksX44_call_2 1 rfl rfl)
theorem dX44_call_100 : decode cX44_call 100 = .ok (.invokevirtual 67, 3) := dk_182 0 67 (dk_at dksX44_call_2 4 rfl rfl)
theorem dX44_call_103 : decode cX44_call 103 = .ok (.i2l, 1) := dk_133 (dk_at dksX44_call_2 7 rfl rfl)
theorem dX44_call_104 : decode cX44_call 104 = .ok (.lreturn, 1) := dk_173 (dk_at dksX44_call_2 8 rfl rfl)
theorem dX44_call_105 : decode cX44_call 105 = .ok (.aload_n 0, 1) := dk_42 (dk_at dksX44_call_2 9 rfl rfl)
theorem dX44_call_106 : decode cX44_call 106 = .ok (.getfield 9, 3) := dk_180 0 9 (dk_at dksX44_call_2 10 rfl rfl)
theorem dX44_call_109 : decode cX44_call 109 = .ok (.iload_n 3, 1) := dk_29 (dk_at dksX44_call_2 13 rfl rfl)
theorem dX44_call_110 : decode cX44_call 110 = .ok (.aload_n 2, 1) := dk_44 (dk_at dksX44_call_2 14 rfl rfl)
theorem dX44_call_111 : decode cX44_call 111 = .ok (.iconst 1, 1) := dk_4 (dk_at dksX44_call_2 15 rfl rfl)
theorem dX44_call_112 : decode cX44_call 112 = .ok (.laload, 1) := dk_47 (dk_at dksX44_call_2 16 rfl rfl)
theorem dX44_call_113 : decode cX44_call 113 = .ok (.invokevirtual 72, 3) := dk_182 0 72 (dk_at dksX44_call_2 17 rfl rfl)
theorem dX44_call_116 : decode cX44_call 116 = .ok (.i2l, 1) := dk_133 (dk_at dksX44_call_2 20 rfl rfl)
theorem dX44_call_117 : decode cX44_call 117 = .ok (.lreturn, 1) := dk_173 (dk_at dksX44_call_2 21 rfl rfl)
theorem dX44_call_118 : decode cX44_call 118 = .ok (.aload_n 0, 1) := dk_42 (dk_at dksX44_call_2 22 rfl rfl)
theorem dX44_call_119 : decode cX44_call 119 = .ok (.getfield 9, 3) := dk_180 0 9 (dk_at dksX44_call_3 0 rfl rfl)
theorem dX44_call_122 : decode cX44_call 122 = .ok (.iload_n 3, 1) := dk_29 (dk_at dksX44_call_3 3 rfl rfl)
theorem dX44_call_123 : decode cX44_call 123 = .ok (.iload 4, 2) := dk_21 4 (dk_at dksX44_call_3 4 rfl rfl)
theorem dX44_call_125 : decode cX44_call 125 = .ok (.aload_n 2, 1) := dk_44 (dk_at dksX44_call_3 6 rfl rfl)
theorem dX44_call_126 : decode cX44_call 126 = .ok (.iconst 2, 1) := dk_5 (dk_at dksX44_call_3 7 rfl rfl)
theorem dX44_call_127 : decode cX44_call 127 = .ok (.laload, 1) := dk_47 (dk_at dksX44_call_3 8 rfl rfl)
theorem dX44_call_128 : decode cX44_call 128 = .ok (.l2i, 1) := dk_136 (dk_at dksX44_call_3 9 rfl rfl)
theorem dX44_call_129 : decode cX44_call 129 = .ok (.invokevirtual 75, 3) := dk_182 0 75 (dk_at dksX44_call_3 10 rfl rfl)
theorem dX44_call_132 : decode cX44_call 132 = .ok (.i2l, 1) := dk_133 (dk_at dksX44_call_3 13 rfl rfl)
theorem dX44_call_133 : decode cX44_call 133 = .ok (.lreturn, 1) := dk_173 (dk_at dksX44_call_3 14 rfl rfl)
theorem dX44_call_134 : decode cX44_call 134 = .ok (.aload_n 0, 1) := dk_42 (dk_at dksX44_call_3 15 rfl rfl)
theorem dX44_call_135 : decode cX44_call 135 = .ok (.getfield 9, 3) := dk_180 0 9 (dk_at dksX44_call_3 16 rfl rfl)
theorem dX44_call_138 : decode cX44_call 138 = .ok (.iload_n 3, 1) := dk_29 (dk_at dksX44_call_3 19 rfl rfl)
theorem dX44_call_139 : decode cX44_call 139 = .ok (.iload 4, 2) := dk_21 4 (dk_at dksX44_call_3 20 rfl rfl)
theorem dX44_call_141 : decode cX44_call 141 = .ok (.invokevirtual 78, 3) := dk_182 0 78 (dk_at dksX44_call_4 0 rfl rfl)
theorem dX44_call_144 : decode cX44_call 144 = .ok (.invokestatic 81, 3) := dk_184 0 81 (dk_at dksX44_call_4 3 rfl rfl)
theorem dX44_call_147 : decode cX44_call 147 = .ok (.lreturn, 1) := dk_173 (dk_at dksX44_call_4 6 rfl rfl)
theorem dX44_call_148 : decode cX44_call 148 = .ok (.aload_n 0, 1) := dk_42 (dk_at dksX44_call_4 7 rfl rfl)
theorem dX44_call_149 : decode cX44_call 149 = .ok (.getfield 9, 3) := dk_180 0 9 (dk_at dksX44_call_4 8 rfl rfl)
theorem dX44_call_152 : decode cX44_call 152 = .ok (.iload_n 3, 1) := dk_29 (dk_at dksX44_call_4 11 rfl rfl)
theorem dX44_call_153 : decode cX44_call 153 = .ok (.iload 4, 2) := dk_21 4 (dk_at dksX44_call_4 12 rfl rfl)
theorem dX44_call_155 : decode cX44_call 155 = .ok (.aload_n 2, 1) := dk_44 (dk_at dksX44_call_4 14 rfl rfl)
theorem dX44_call_156 : decode cX44_call 156 = .ok (.iconst 2, 1) := dk_5 (dk_at dksX44_call_4 15 rfl rfl)
theorem dX44_call_157 : decode cX44_call 157 = .ok (.laload, 1) := dk_47 (dk_at dksX44_call_4 16 rfl rfl)
theorem dX44_call_158 : decode cX44_call 158 = .ok (.l2i, 1) := dk_136 (dk_at dksX44_call_4 17 rfl rfl)
theorem dX44_call_159 : decode cX44_call 159 = .ok (.invokevirtual 85, 3) := dk_182 0 85 (dk_at dksX44_call_4 18 rfl rfl)
theorem dX44_call_162 : decode cX44_call 162 = .ok (.invokestatic 81, 3) := dk_184 0 81 (dk_at dksX44_call_4 21 rfl rfl)
theorem dX44_call_165 : decode cX44_call 165 = .ok (.lreturn, 1) := dk_173 (dk_at dksX44_call_5 0 rfl rfl)
theorem dX44_call_166 : decode cX44_call 166 = .ok (.aload_n 0, 1) := dk_42 (dk_at dksX44_call_5 1 rfl rfl)
theorem dX44_call_167 : decode cX44_call 167 = .ok (.getfield 9, 3) := dk_180 0 9 (dk_at dksX44_call_5 2 rfl rfl)
theorem dX44_call_170 : decode cX44_call 170 = .ok (.iload_n 3, 1) := dk_29 (dk_at dksX44_call_5 5 rfl rfl)
theorem dX44_call_171 : decode cX44_call 171 = .ok (.iload 4, 2) := dk_21 4 (dk_at dksX44_call_5 6 rfl rfl)
theorem dX44_call_173 : decode cX44_call 173 = .ok (.invokevirtual 88, 3) := dk_182 0 88 (dk_at dksX44_call_5 8 rfl rfl)
theorem dX44_call_176 : decode cX44_call 176 = .ok (.i2l, 1) := dk_133 (dk_at dksX44_call_5 11 rfl rfl)
theorem dX44_call_177 : decode cX44_call 177 = .ok (.lreturn, 1) := dk_173 (dk_at dksX44_call_5 12 rfl rfl)
theorem dX44_call_178 : decode cX44_call 178 = .ok (.aload_n 0, 1) := dk_42 (dk_at dksX44_call_5 13 rfl rfl)
theorem dX44_call_179 : decode cX44_call 179 = .ok (.getfield 9, 3) := dk_180 0 9 (dk_at dksX44_call_5 14 rfl rfl)
theorem dX44_call_182 : decode cX44_call 182 = .ok (.iload_n 3, 1) := dk_29 (dk_at dksX44_call_5 17 rfl rfl)
theorem dX44_call_183 : decode cX44_call 183 = .ok (.invokevirtual 91, 3) := dk_182 0 91 (dk_at dksX44_call_5 18 rfl rfl)
theorem dX44_call_186 : decode cX44_call 186 = .ok (.i2l, 1) := dk_133 (dk_at dksX44_call_5 21 rfl rfl)
theorem dX44_call_187 : decode cX44_call 187 = .ok (.lreturn, 1) := dk_173 (dk_at dksX44_call_5 22 rfl rfl)
theorem dX44_call_188 : decode cX44_call 188 = .ok (.aload_n 0, 1) := dk_42 (dk_at dksX44_call_5 23 rfl rfl)
theorem dX44_call_189 : decode cX44_call 189 = .ok (.getfield 9, 3) := dk_180 0 9 (dk_at dksX44_call_6 0 rfl rfl)
theorem dX44_call_192 : decode cX44_call 192 = .ok (.iload_n 3, 1) := dk_29 (dk_at dksX44_call_6 3 rfl rfl)
theorem dX44_call_193 : decode cX44_call 193 = .ok (.iload 4, 2) := dk_21 4 (dk_at dksX44_call_6 4 rfl rfl)
theorem dX44_call_195 : decode cX44_call 195 = .ok (.invokevirtual 94, 3) := dk_182 0 94 (dk_at dksX44_call_6 6 rfl rfl)
theorem dX44_call_198 : decode cX44_call 198 = .ok (.invokestatic 81, 3) := dk_184 0 81 (dk_at dksX44_call_6 9 rfl rfl)
theorem dX44_call_201 : decode cX44_call 201 = .ok (.lreturn, 1) := dk_173 (dk_at dksX44_call_6 12 rfl rfl)
theorem dX44_call_202 : decode cX44_call 202 = .ok (.aload_n 0, 1) := dk_42 (dk_at dksX44_call_6 13 rfl rfl)
theorem dX44_call_203 : decode cX44_call 203 = .ok (.getfield 9, 3) := dk_180 0 9 (dk_at dksX44_call_6 14 rfl rfl)
theorem dX44_call_206 : decode cX44_call 206 = .ok (.iload_n 3, 1) := dk_29 (dk_at dksX44_call_6 17 rfl rfl)
theorem dX44_call_207 : decode cX44_call 207 = .ok (.iload 4, 2) := dk_21 4 (dk_at dksX44_call_6 18 rfl rfl)
theorem dX44_call_209 : decode cX44_call 209 = .ok (.invokevirtual 96, 3) := dk_182 0 96 (dk_at dksX44_call_6 20 rfl rfl)
theorem dX44_call_212 : decode cX44_call 212 = .ok (.i2l, 1) := dk_133 (dk_at dksX44_call_6 23 rfl rfl)
theorem dX44_call_213 : decode cX44_call 213 = .ok (.lreturn, 1) := dk_173 (dk_at dksX44_call_7 0 rfl rfl)
theorem dX44_call_214 : decode cX44_call 214 = .ok (.aload_n 0, 1) := dk_42 (dk_at dksX44_call_7 1 rfl rfl)
theorem dX44_call_215 : decode cX44_call 215 = .ok (.getfield 9, 3) := dk_180 0 9 (dk_at dksX44_call_7 2 rfl rfl)
theorem dX44_call_218 : decode cX44_call 218 = .ok (.iload_n 3, 1) := dk_29 (dk_at dksX44_call_7 5 rfl rfl)
theorem dX44_call_219 : decode cX44_call 219 = .ok (.iload 4, 2) := dk_21 4 (dk_at dksX44_call_7 6 rfl rfl)
theorem dX44_call_221 : decode cX44_call 221 = .ok (.aload_n 2, 1) := dk_44 (dk_at dksX44_call_7 8 rfl rfl)
theorem dX44_call_222 : decode cX44_call 222 = .ok (.iconst 2, 1) := dk_5 (dk_at dksX44_call_7 9 rfl rfl)
theorem dX44_call_223 : decode cX44_call 223 = .ok (.laload, 1) := dk_47 (dk_at dksX44_call_7 10 rfl rfl)
theorem dX44_call_224 : decode cX44_call 224 = .ok (.l2i, 1) := dk_136 (dk_at dksX44_call_7 11 rfl rfl)
theorem dX44_call_225 : decode cX44_call 225 = .ok (.invokevirtual 98, 3) := dk_182 0 98 (dk_at dksX44_call_7 12 rfl rfl)
theorem dX44_call_228 : decode cX44_call 228 = .ok (.invokestatic 81, 3) := dk_184 0 81 (dk_at dksX44_call_7 15 rfl rfl)
theorem dX44_call_231 : decode cX44_call 231 = .ok (.lreturn, 1) := dk_173 (dk_at dksX44_call_7 18 rfl rfl)
theorem dX44_call_232 : decode cX44_call 232 = .ok (.aload_n 0, 1) := dk_42 (dk_at dksX44_call_7 19 rfl rfl)
theorem dX44_call_233 : decode cX44_call 233 = .ok (.getfield 9, 3) := dk_180 0 9 (dk_at dksX44_call_7 20 rfl rfl)
theorem dX44_call_236 : decode cX44_call 236 = .ok (.iload_n 3, 1) := dk_29 (dk_at dksX44_call_7 23 rfl rfl)
theorem dX44_call_237 : decode cX44_call 237 = .ok (.iload 4, 2) := dk_21 4 (dk_at dksX44_call_8 0 rfl rfl)
theorem dX44_call_239 : decode cX44_call 239 = .ok (.invokevirtual 100, 3) := dk_182 0 100 (dk_at dksX44_call_8 2 rfl rfl)
theorem dX44_call_242 : decode cX44_call 242 = .ok (.i2l, 1) := dk_133 (dk_at dksX44_call_8 5 rfl rfl)
theorem dX44_call_243 : decode cX44_call 243 = .ok (.lreturn, 1) := dk_173 (dk_at dksX44_call_8 6 rfl rfl)
theorem dX44_call_244 : decode cX44_call 244 = .ok (.aload_n 0, 1) := dk_42 (dk_at dksX44_call_8 7 rfl rfl)
theorem dX44_call_245 : decode cX44_call 245 = .ok (.getfield 9, 3) := dk_180 0 9 (dk_at dksX44_call_8 8 rfl rfl)
theorem dX44_call_248 : decode cX44_call 248 = .ok (.iload_n 3, 1) := dk_29 (dk_at dksX44_call_8 11 rfl rfl)
theorem dX44_call_249 : decode cX44_call 249 = .ok (.invokevirtual 102, 3) := dk_182 0 102 (dk_at dksX44_call_8 12 rfl rfl)
theorem dX44_call_252 : decode cX44_call 252 = .ok (.lreturn, 1) := dk_173 (dk_at dksX44_call_8 15 rfl rfl)
theorem dX44_call_253 : decode cX44_call 253 = .ok (.aload_n 0, 1) := dk_42 (dk_at dksX44_call_8 16 rfl rfl)
theorem dX44_call_254 : decode cX44_call 254 = .ok (.getfield 9, 3) := dk_180 0 9 (dk_at dksX44_call_8 17 rfl rfl)
theorem dX44_call_257 : decode cX44_call 257 = .ok (.iload_n 3, 1) := dk_29 (dk_at dksX44_call_8 20 rfl rfl)
theorem dX44_call_258 : decode cX44_call 258 = .ok (.iload 4, 2) := dk_21 4 (dk_at dksX44_call_8 21 rfl rfl)
theorem dX44_call_260 : decode cX44_call 260 = .ok (.invokevirtual 105, 3) := dk_182 0 105 (dk_at dksX44_call_9 0 rfl rfl)
theorem dX44_call_263 : decode cX44_call 263 = .ok (.invokestatic 81, 3) := dk_184 0 81 (dk_at dksX44_call_9 3 rfl rfl)
theorem dX44_call_266 : decode cX44_call 266 = .ok (.lreturn, 1) := dk_173 (dk_at dksX44_call_9 6 rfl rfl)
theorem dX44_call_267 : decode cX44_call 267 = .ok (.aload_n 0, 1) := dk_42 (dk_at dksX44_call_9 7 rfl rfl)
theorem dX44_call_268 : decode cX44_call 268 = .ok (.getfield 9, 3) := dk_180 0 9 (dk_at dksX44_call_9 8 rfl rfl)
theorem dX44_call_271 : decode cX44_call 271 = .ok (.iload_n 3, 1) := dk_29 (dk_at dksX44_call_9 11 rfl rfl)
theorem dX44_call_272 : decode cX44_call 272 = .ok (.iload 4, 2) := dk_21 4 (dk_at dksX44_call_9 12 rfl rfl)
theorem dX44_call_274 : decode cX44_call 274 = .ok (.invokevirtual 107, 3) := dk_182 0 107 (dk_at dksX44_call_9 14 rfl rfl)
theorem dX44_call_277 : decode cX44_call 277 = .ok (.i2l, 1) := dk_133 (dk_at dksX44_call_9 17 rfl rfl)
theorem dX44_call_278 : decode cX44_call 278 = .ok (.lreturn, 1) := dk_173 (dk_at dksX44_call_9 18 rfl rfl)
theorem dX44_call_279 : decode cX44_call 279 = .ok (.aload_n 0, 1) := dk_42 (dk_at dksX44_call_9 19 rfl rfl)
theorem dX44_call_280 : decode cX44_call 280 = .ok (.getfield 9, 3) := dk_180 0 9 (dk_at dksX44_call_9 20 rfl rfl)
theorem dX44_call_283 : decode cX44_call 283 = .ok (.iload_n 3, 1) := dk_29 (dk_at dksX44_call_9 23 rfl rfl)
theorem dX44_call_284 : decode cX44_call 284 = .ok (.aload_n 2, 1) := dk_44 (dk_at dksX44_call_10 0 rfl rfl)
theorem dX44_call_285 : decode cX44_call 285 = .ok (.iconst 1, 1) := dk_4 (dk_at dksX44_call_10 1 rfl rfl)
theorem dX44_call_286 : decode cX44_call 286 = .ok (.laload, 1) := dk_47 (dk_at dksX44_call_10 2 rfl rfl)
theorem dX44_call_287 : decode cX44_call 287 = .ok (.invokevirtual 109, 3) := dk_182 0 109 (dk_at dksX44_call_10 3 rfl rfl)
theorem dX44_call_290 : decode cX44_call 290 = .ok (.invokestatic 81, 3) := dk_184 0 81 (dk_at dksX44_call_10 6 rfl rfl)
theorem dX44_call_293 : decode cX44_call 293 = .ok (.lreturn, 1) := dk_173 (dk_at dksX44_call_10 9 rfl rfl)
theorem dX44_call_294 : decode cX44_call 294 = .ok (.aload_n 0, 1) := dk_42 (dk_at dksX44_call_10 10 rfl rfl)
theorem dX44_call_295 : decode cX44_call 295 = .ok (.getfield 9, 3) := dk_180 0 9 (dk_at dksX44_call_10 11 rfl rfl)
theorem dX44_call_298 : decode cX44_call 298 = .ok (.iload_n 3, 1) := dk_29 (dk_at dksX44_call_10 14 rfl rfl)
theorem dX44_call_299 : decode cX44_call 299 = .ok (.aload_n 2, 1) := dk_44 (dk_at dksX44_call_10 15 rfl rfl)
theorem dX44_call_300 : decode cX44_call 300 = .ok (.iconst 1, 1) := dk_4 (dk_at dksX44_call_10 16 rfl rfl)
theorem dX44_call_301 : decode cX44_call 301 = .ok (.laload, 1) := dk_47 (dk_at dksX44_call_10 17 rfl rfl)
theorem dX44_call_302 : decode cX44_call 302 = .ok (.invokevirtual 112, 3) := dk_182 0 112 (dk_at dksX44_call_10 18 rfl rfl)
theorem dX44_call_305 : decode cX44_call 305 = .ok (.invokestatic 81, 3) := dk_184 0 81 (dk_at dksX44_call_10 21 rfl rfl)
theorem dX44_call_308 : decode cX44_call 308 = .ok (.lreturn, 1) := dk_173 (dk_at dksX44_call_11 0 rfl rfl)
theorem dX44_call_309 : decode cX44_call 309 = .ok (.aload_n 0, 1) := dk_42 (dk_at dksX44_call_11 1 rfl rfl)
theorem dX44_call_310 : decode cX44_call 310 = .ok (.getfield 9, 3) := dk_180 0 9 (dk_at dksX44_call_11 2 rfl rfl)
theorem dX44_call_313 : decode cX44_call 313 = .ok (.iload_n 3, 1) := dk_29 (dk_at dksX44_call_11 5 rfl rfl)
theorem dX44_call_314 : decode cX44_call 314 = .ok (.invokevirtual 114, 3) := dk_182 0 114 (dk_at dksX44_call_11 6 rfl rfl)
theorem dX44_call_317 : decode cX44_call 317 = .ok (.i2l, 1) := dk_133 (dk_at dksX44_call_11 9 rfl rfl)
theorem dX44_call_318 : decode cX44_call 318 = .ok (.lreturn, 1) := dk_173 (dk_at dksX44_call_11 10 rfl rfl)
theorem dX44_call_319 : decode cX44_call 319 = .ok (.aload_n 0, 1) := dk_42 (dk_at dksX44_call_11 11 rfl rfl)
theorem dX44_call_320 : decode cX44_call 320 = .ok (.getfield 9, 3) := dk_180 0 9 (dk_at dksX44_call_11 12 rfl rfl)
theorem dX44_call_323 : decode cX44_call 323 = .ok (.invokevirtual 116, 3) := dk_182 0 116 (dk_at dksX44_call_11 15 rfl rfl)
theorem dX44_call_326 : decode cX44_call 326 = .ok (.i2l, 1) := dk_133 (dk_at dksX44_call_11 18 rfl rfl)
theorem dX44_call_327 : decode cX44_call 327 = .ok (.lreturn, 1) := dk_173 (dk_at dksX44_call_11 19 rfl rfl)
theorem q450 : (Jvm.Cond.initialized "WasteHouse$ProductRoom") ∈ lw_all := lw_g (lw_at lw_m1 58 rfl) rfl
theorem q2001 : (Jvm.Cond.selects "WasteHouse$ProductRoom" ({ cls := "java/lang/Object", name := "getClass", desc := "()Ljava/lang/Class;" } : Jvm.MethodName) ({ cls := "java/lang/Object", name := "getClass", desc := "()Ljava/lang/Class;" } : Jvm.MethodName)) ∈ lw_all := lw_g (lw_at lw_m7 169 rfl) rfl
theorem q2356 : (Jvm.Cond.instantiable "WasteHouse$ProductRoom" (4 : Nat)) ∈ lw_all := lw_g (lw_at lw_m9 44 rfl) rfl
theorem q2358 : (Jvm.Cond.instanceMethod ({ cls := "WasteHouse$ProductRoom", name := "<init>", desc := "(LWasteHouse$PartGraphs;)V" } : Jvm.MethodName)) ∈ lw_all := lw_g (lw_at lw_m9 46 rfl) rfl
theorem q2359 : (Jvm.Cond.code ({ cls := "WasteHouse$ProductRoom", name := "<init>", desc := "(LWasteHouse$PartGraphs;)V" } : Jvm.MethodName) prog_31_method_1_code (2 : Nat) (Option.none : Option Jvm.ClassFile.FieldType)) ∈ lw_all := lw_g (lw_at lw_m9 47 rfl) rfl
theorem q2360 : (Jvm.Cond.stringRef "WasteHouse$ProductRoom" (1 : Nat) "product") ∈ lw_tbl := lw_at lw_m9 48 rfl
theorem q2361 : (Jvm.Cond.methodLink "WasteHouse$ProductRoom" (3 : Nat) ({ cls := "WasteHouse$Room", name := "<init>", desc := "(Ljava/lang/String;)V" } : Jvm.MethodName)) ∈ lw_all := lw_g (lw_at lw_m9 49 rfl) rfl
theorem q2362 : (Jvm.Cond.stringRef "WasteHouse$ProductRoom" (15 : Nat) "read") ∈ lw_tbl := lw_at lw_m9 50 rfl
theorem q2363 : (Jvm.Cond.stringRef "WasteHouse$ProductRoom" (17 : Nat) "t") ∈ lw_tbl := lw_at lw_m9 51 rfl
theorem q2364 : (Jvm.Cond.methodLink "WasteHouse$ProductRoom" (19 : Nat) ({ cls := "WasteHouse$ProductRoom", name := "add", desc := "(Ljava/lang/String;Ljava/lang/String;)V" } : Jvm.MethodName)) ∈ lw_all := lw_g (lw_at lw_m9 52 rfl) rfl
theorem q2365 : (Jvm.Cond.sameMethod "WasteHouse$ProductRoom" "WasteHouse$Room" "add" "(Ljava/lang/String;Ljava/lang/String;)V") ∈ lw_all := lw_g (lw_at lw_m9 53 rfl) rfl
theorem q2366 : (Jvm.Cond.selects "WasteHouse$ProductRoom" ({ cls := "WasteHouse$ProductRoom", name := "add", desc := "(Ljava/lang/String;Ljava/lang/String;)V" } : Jvm.MethodName) ({ cls := "WasteHouse$Room", name := "add", desc := "(Ljava/lang/String;Ljava/lang/String;)V" } : Jvm.MethodName)) ∈ lw_all := lw_g (lw_at lw_m9 54 rfl) rfl
theorem q2367 : (Jvm.Cond.stringRef "WasteHouse$ProductRoom" (23 : Nat) "part") ∈ lw_tbl := lw_at lw_m9 55 rfl
theorem q2368 : (Jvm.Cond.stringRef "WasteHouse$ProductRoom" (25 : Nat) "il") ∈ lw_tbl := lw_at lw_m9 56 rfl
theorem q2369 : (Jvm.Cond.stringRef "WasteHouse$ProductRoom" (27 : Nat) "fasten") ∈ lw_tbl := lw_at lw_m9 57 rfl
theorem q2370 : (Jvm.Cond.stringRef "WasteHouse$ProductRoom" (29 : Nat) "iii") ∈ lw_tbl := lw_at lw_m9 58 rfl
theorem q2371 : (Jvm.Cond.stringRef "WasteHouse$ProductRoom" (31 : Nat) "cover") ∈ lw_tbl := lw_at lw_m9 59 rfl
theorem q2372 : (Jvm.Cond.stringRef "WasteHouse$ProductRoom" (33 : Nat) "ii") ∈ lw_tbl := lw_at lw_m9 60 rfl
theorem q2373 : (Jvm.Cond.stringRef "WasteHouse$ProductRoom" (35 : Nat) "way") ∈ lw_tbl := lw_at lw_m9 61 rfl
theorem q2374 : (Jvm.Cond.stringRef "WasteHouse$ProductRoom" (37 : Nat) "before") ∈ lw_tbl := lw_at lw_m9 62 rfl
theorem q2375 : (Jvm.Cond.stringRef "WasteHouse$ProductRoom" (39 : Nat) "ring") ∈ lw_tbl := lw_at lw_m9 63 rfl
theorem q2376 : (Jvm.Cond.stringRef "WasteHouse$ProductRoom" (41 : Nat) "i") ∈ lw_tbl := lw_at lw_m9 64 rfl
theorem q2377 : (Jvm.Cond.stringRef "WasteHouse$ProductRoom" (43 : Nat) "option") ∈ lw_tbl := lw_at lw_m9 65 rfl
theorem q2378 : (Jvm.Cond.stringRef "WasteHouse$ProductRoom" (45 : Nat) "family") ∈ lw_tbl := lw_at lw_m9 66 rfl
theorem q2379 : (Jvm.Cond.stringRef "WasteHouse$ProductRoom" (47 : Nat) "holds") ∈ lw_tbl := lw_at lw_m9 67 rfl
theorem q2380 : (Jvm.Cond.stringRef "WasteHouse$ProductRoom" (49 : Nat) "alike") ∈ lw_tbl := lw_at lw_m9 68 rfl
theorem q2381 : (Jvm.Cond.stringRef "WasteHouse$ProductRoom" (51 : Nat) "weight") ∈ lw_tbl := lw_at lw_m9 69 rfl
theorem q2382 : (Jvm.Cond.stringRef "WasteHouse$ProductRoom" (53 : Nat) "hazard") ∈ lw_tbl := lw_at lw_m9 70 rfl
theorem q2383 : (Jvm.Cond.stringRef "WasteHouse$ProductRoom" (55 : Nat) "damage") ∈ lw_tbl := lw_at lw_m9 71 rfl
theorem q2384 : (Jvm.Cond.stringRef "WasteHouse$ProductRoom" (57 : Nat) "free") ∈ lw_tbl := lw_at lw_m9 72 rfl
theorem q2385 : (Jvm.Cond.stringRef "WasteHouse$ProductRoom" (59 : Nat) "plain") ∈ lw_tbl := lw_at lw_m9 73 rfl
theorem q2386 : (Jvm.Cond.stringRef "WasteHouse$ProductRoom" (61 : Nat) "write") ∈ lw_tbl := lw_at lw_m9 74 rfl
theorem q2387 : (Jvm.Cond.stringRef "WasteHouse$ProductRoom" (63 : Nat) "loose") ∈ lw_tbl := lw_at lw_m9 75 rfl
theorem q2388 : (Jvm.Cond.stringRef "WasteHouse$ProductRoom" (65 : Nat) "") ∈ lw_tbl := lw_at lw_m9 76 rfl
theorem q2389 : (Jvm.Cond.fieldLink "WasteHouse$ProductRoom" (9 : Nat) "WasteHouse$ProductRoom" "graph" "LWasteHouse$PartGraphs;") ∈ lw_all := lw_g (lw_at lw_m9 77 rfl) rfl
theorem q2390 : (Jvm.Cond.laysFinal "WasteHouse$ProductRoom" "WasteHouse$ProductRoom" "graph" "LWasteHouse$PartGraphs;") ∈ lw_all := lw_g (lw_at lw_m9 78 rfl) rfl
theorem q2391 : (Jvm.Cond.soleField "WasteHouse$ProductRoom" "graph") ∈ lw_all := lw_g (lw_at lw_m9 79 rfl) rfl
theorem q2392 : (Jvm.Cond.laysFinal "WasteHouse$ProductRoom" "WasteHouse$Room" "name" "Ljava/lang/String;") ∈ lw_all := lw_g (lw_at lw_m9 80 rfl) rfl
theorem q2393 : (Jvm.Cond.laysFinal "WasteHouse$ProductRoom" "WasteHouse$Room" "words" "Ljava/util/ArrayList;") ∈ lw_all := lw_g (lw_at lw_m9 81 rfl) rfl
theorem q2394 : (Jvm.Cond.laysFinal "WasteHouse$ProductRoom" "WasteHouse$Room" "needs" "Ljava/util/ArrayList;") ∈ lw_all := lw_g (lw_at lw_m9 82 rfl) rfl
theorem q2395 : (Jvm.Cond.superclass "WasteHouse$ProductRoom" "WasteHouse$Room") ∈ lw_all := lw_g (lw_at lw_m9 83 rfl) rfl
theorem q3062 : (Jvm.Cond.selects "WasteHouse$ProductRoom" ({ cls := "WasteHouse$Room", name := "find", desc := "(Ljava/lang/String;)I" } : Jvm.MethodName) ({ cls := "WasteHouse$Room", name := "find", desc := "(Ljava/lang/String;)I" } : Jvm.MethodName)) ∈ lw_all := lw_g (lw_at lw_m12 30 rfl) rfl
theorem q3111 : (Jvm.Cond.selects "WasteHouse$ProductRoom" ({ cls := "java/lang/Object", name := "equals", desc := "(Ljava/lang/Object;)Z" } : Jvm.MethodName) ({ cls := "java/lang/Object", name := "equals", desc := "(Ljava/lang/Object;)Z" } : Jvm.MethodName)) ∈ lw_all := lw_g (lw_at lw_m12 79 rfl) rfl
theorem q3176 : (Jvm.Cond.selects "WasteHouse$ProductRoom" ({ cls := "WasteHouse$Room", name := "need", desc := "(I)Ljava/lang/String;" } : Jvm.MethodName) ({ cls := "WasteHouse$Room", name := "need", desc := "(I)Ljava/lang/String;" } : Jvm.MethodName)) ∈ lw_all := lw_g (lw_at lw_m12 144 rfl) rfl
theorem q3629 : (Jvm.Cond.selects "WasteHouse$ProductRoom" ({ cls := "java/lang/Object", name := "hashCode", desc := "()I" } : Jvm.MethodName) ({ cls := "java/lang/Object", name := "hashCode", desc := "()I" } : Jvm.MethodName)) ∈ lw_all := lw_g (lw_at lw_m14 117 rfl) rfl
theorem q5776 : (Jvm.Cond.selects "WasteHouse$ProductRoom" ({ cls := "WasteHouse$Room", name := "call", desc := "(I[J)J" } : Jvm.MethodName) ({ cls := "WasteHouse$ProductRoom", name := "call", desc := "(I[J)J" } : Jvm.MethodName)) ∈ lw_all := lw_g (lw_at lw_m23 104 rfl) rfl
theorem q5777 : (Jvm.Cond.instanceMethod ({ cls := "WasteHouse$ProductRoom", name := "call", desc := "(I[J)J" } : Jvm.MethodName)) ∈ lw_all := lw_g (lw_at lw_m23 105 rfl) rfl
theorem q5778 : (Jvm.Cond.code ({ cls := "WasteHouse$ProductRoom", name := "call", desc := "(I[J)J" } : Jvm.MethodName) prog_31_method_2_code (5 : Nat) (Option.some Jvm.ClassFile.FieldType.long)) ∈ lw_all := lw_g (lw_at lw_m23 106 rfl) rfl
theorem q5779 : (Jvm.Cond.methodLink "WasteHouse$ProductRoom" (67 : Nat) ({ cls := "WasteHouse$PartGraphs", name := "read", desc := "()I" } : Jvm.MethodName)) ∈ lw_all := lw_g (lw_at lw_m23 107 rfl) rfl
theorem q5918 : (Jvm.Cond.methodLink "WasteHouse$ProductRoom" (72 : Nat) ({ cls := "WasteHouse$PartGraphs", name := "part", desc := "(IJ)I" } : Jvm.MethodName)) ∈ lw_all := lw_g (lw_at lw_m24 6 rfl) rfl
theorem q5922 : (Jvm.Cond.methodLink "WasteHouse$ProductRoom" (75 : Nat) ({ cls := "WasteHouse$PartGraphs", name := "fasten", desc := "(III)I" } : Jvm.MethodName)) ∈ lw_all := lw_g (lw_at lw_m24 10 rfl) rfl
theorem q5926 : (Jvm.Cond.methodLink "WasteHouse$ProductRoom" (78 : Nat) ({ cls := "WasteHouse$PartGraphs", name := "cover", desc := "(II)Z" } : Jvm.MethodName)) ∈ lw_all := lw_g (lw_at lw_m24 14 rfl) rfl
theorem q5930 : (Jvm.Cond.methodLink "WasteHouse$ProductRoom" (81 : Nat) ({ cls := "WasteHouse$ProductRoom", name := "bit", desc := "(Z)J" } : Jvm.MethodName)) ∈ lw_all := lw_g (lw_at lw_m24 18 rfl) rfl
theorem q5931 : (Jvm.Cond.sameMethod "WasteHouse$ProductRoom" "WasteHouse$Room" "bit" "(Z)J") ∈ lw_all := lw_g (lw_at lw_m24 19 rfl) rfl
theorem q5932 : (Jvm.Cond.methodLink "WasteHouse$ProductRoom" (85 : Nat) ({ cls := "WasteHouse$PartGraphs", name := "way", desc := "(III)Z" } : Jvm.MethodName)) ∈ lw_all := lw_g (lw_at lw_m24 20 rfl) rfl
theorem q5939 : (Jvm.Cond.methodLink "WasteHouse$ProductRoom" (88 : Nat) ({ cls := "WasteHouse$PartGraphs", name := "before", desc := "(II)I" } : Jvm.MethodName)) ∈ lw_all := lw_g (lw_at lw_m24 27 rfl) rfl
theorem q5940 : (Jvm.Cond.methodLink "WasteHouse$ProductRoom" (91 : Nat) ({ cls := "WasteHouse$PartGraphs", name := "ring", desc := "(I)I" } : Jvm.MethodName)) ∈ lw_all := lw_g (lw_at lw_m24 28 rfl) rfl
theorem q5948 : (Jvm.Cond.methodLink "WasteHouse$ProductRoom" (94 : Nat) ({ cls := "WasteHouse$PartGraphs", name := "option", desc := "(II)Z" } : Jvm.MethodName)) ∈ lw_all := lw_g (lw_at lw_m24 36 rfl) rfl
theorem q5952 : (Jvm.Cond.methodLink "WasteHouse$ProductRoom" (96 : Nat) ({ cls := "WasteHouse$PartGraphs", name := "family", desc := "(II)I" } : Jvm.MethodName)) ∈ lw_all := lw_g (lw_at lw_m24 40 rfl) rfl
theorem q5966 : (Jvm.Cond.methodLink "WasteHouse$ProductRoom" (98 : Nat) ({ cls := "WasteHouse$PartGraphs", name := "holds", desc := "(III)Z" } : Jvm.MethodName)) ∈ lw_all := lw_g (lw_at lw_m24 54 rfl) rfl
theorem q5974 : (Jvm.Cond.methodLink "WasteHouse$ProductRoom" (100 : Nat) ({ cls := "WasteHouse$PartGraphs", name := "alike", desc := "(II)I" } : Jvm.MethodName)) ∈ lw_all := lw_g (lw_at lw_m24 62 rfl) rfl
theorem q5982 : (Jvm.Cond.methodLink "WasteHouse$ProductRoom" (102 : Nat) ({ cls := "WasteHouse$PartGraphs", name := "weight", desc := "(I)J" } : Jvm.MethodName)) ∈ lw_all := lw_g (lw_at lw_m24 70 rfl) rfl
theorem q5987 : (Jvm.Cond.methodLink "WasteHouse$ProductRoom" (105 : Nat) ({ cls := "WasteHouse$PartGraphs", name := "hazard", desc := "(II)Z" } : Jvm.MethodName)) ∈ lw_all := lw_g (lw_at lw_m24 75 rfl) rfl
theorem q5991 : (Jvm.Cond.methodLink "WasteHouse$ProductRoom" (107 : Nat) ({ cls := "WasteHouse$PartGraphs", name := "damage", desc := "(II)I" } : Jvm.MethodName)) ∈ lw_all := lw_g (lw_at lw_m24 79 rfl) rfl
theorem q5995 : (Jvm.Cond.methodLink "WasteHouse$ProductRoom" (109 : Nat) ({ cls := "WasteHouse$PartGraphs", name := "free", desc := "(IJ)Z" } : Jvm.MethodName)) ∈ lw_all := lw_g (lw_at lw_m24 83 rfl) rfl
theorem q6000 : (Jvm.Cond.methodLink "WasteHouse$ProductRoom" (112 : Nat) ({ cls := "WasteHouse$PartGraphs", name := "plain", desc := "(IJ)Z" } : Jvm.MethodName)) ∈ lw_all := lw_g (lw_at lw_m24 88 rfl) rfl
theorem q6005 : (Jvm.Cond.methodLink "WasteHouse$ProductRoom" (114 : Nat) ({ cls := "WasteHouse$PartGraphs", name := "write", desc := "(I)I" } : Jvm.MethodName)) ∈ lw_all := lw_g (lw_at lw_m24 93 rfl) rfl
theorem q6029 : (Jvm.Cond.methodLink "WasteHouse$ProductRoom" (116 : Nat) ({ cls := "WasteHouse$PartGraphs", name := "loose", desc := "()I" } : Jvm.MethodName)) ∈ lw_all := lw_g (lw_at lw_m24 117 rfl) rfl
theorem q9613 : (Jvm.Cond.castable "WasteHouse$ProductRoom" "WasteHouse$Room") ∈ lw_tbl := lw_at lw_m39 101 rfl
theorem q9667 : (Jvm.Cond.castable "WasteHouse$ProductRoom" "java/lang/Object") ∈ lw_tbl := lw_at lw_m39 155 rfl
theorem in_X44 : ∀ w ∈ wsX440, w ∈ lw_all := lw_in wsX440 [2392, 2393, 2394, 2390] (by decide +kernel) (by decide +kernel)
