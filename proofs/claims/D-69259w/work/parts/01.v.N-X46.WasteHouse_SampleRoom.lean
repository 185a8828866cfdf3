/-! WasteHouse$SampleRoom -/
set_option maxRecDepth 100000
def RX46 : String := "WasteHouse$SampleRoom"
def TX46 : u_T := fun k => match k with
  | 0 => ("WasteHouse$Room", "name", "Ljava/lang/String;", true)
  | 1 => ("WasteHouse$Room", "words", "Ljava/util/ArrayList;", true)
  | 2 => ("WasteHouse$Room", "needs", "Ljava/util/ArrayList;", true)
  | _ => ("WasteHouse$SampleRoom", "samples", "LWasteHouse$PurityOdds;", true)
def tyX46 : Nat → FieldType := fun k => match k with
  | 0 => .object "java/lang/String"
  | 1 => .object "java/util/ArrayList"
  | 2 => .object "java/util/ArrayList"
  | _ => .object "WasteHouse$PurityOdds"
abbrev wsX460 : List Cond := u_ws RX46 TX46 4
theorem nmX46 : ∀ a, a < 4 → ∀ b, b < 4 → a ≠ b → (TX46 a).2.1 ≠ (TX46 b).2.1 := by decide +kernel
theorem tyX46_ok : ∀ k, k < 4 → parseFieldDescriptor (TX46 k).2.2.1 = some (tyX46 k) := by decide +kernel
abbrev cX46_init : ByteArray := prog_41_method_1_code
def yX46_init : MethodName := ⟨RX46, "<init>", "(LWasteHouse$PurityOdds;)V"⟩
def dkwX46_init_5 : List UInt8 := [182, 0, 18, 42, 18, 64, 18, 46, 182, 0, 18, 177]
abbrev dktX46_init_5 : List UInt8 := dkwX46_init_5 ++ []
def dkwX46_init_4 : List UInt8 := [182, 0, 18, 42, 18, 58, 18, 16, 182, 0, 18, 42, 18, 60, 18, 56, 182, 0, 18, 42, 18, 62, 18, 16]
abbrev dktX46_init_4 : List UInt8 := dkwX46_init_4 ++ dktX46_init_5
def dkwX46_init_3 : List UInt8 := [182, 0, 18, 42, 18, 48, 18, 50, 182, 0, 18, 42, 18, 52, 18, 46, 182, 0, 18, 42, 18, 54, 18, 56]
abbrev dktX46_init_3 : List UInt8 := dkwX46_init_3 ++ dktX46_init_4
def dkwX46_init_2 : List UInt8 := [182, 0, 18, 42, 18, 38, 18, 40, 182, 0, 18, 42, 18, 42, 18, 32, 182, 0, 18, 42, 18, 44, 18, 46]
abbrev dktX46_init_2 : List UInt8 := dkwX46_init_2 ++ dktX46_init_3
def dkwX46_init_1 : List UInt8 := [182, 0, 18, 42, 18, 26, 18, 28, 182, 0, 18, 42, 18, 30, 18, 32, 182, 0, 18, 42, 18, 34, 18, 36]
abbrev dktX46_init_1 : List UInt8 := dkwX46_init_1 ++ dktX46_init_2
def dkwX46_init_0 : List UInt8 := [42, 18, 1, 183, 0, 3, 42, 43, 181, 0, 9, 42, 18, 14, 18, 16, 182, 0, 18, 42, 18, 22, 18, 24]
abbrev dktX46_init_0 : List UInt8 := dkwX46_init_0 ++ dktX46_init_1
theorem dksX46_init_0 : cX46_init.data.toList.drop 0 = dktX46_init_0 := by decide +kernel
theorem dksX46_init_1 : cX46_init.data.toList.drop 24 = dktX46_init_1 := dk_seg dksX46_init_0 24 rfl rfl
theorem dksX46_init_2 : cX46_init.data.toList.drop 48 = dktX46_init_2 := dk_seg dksX46_init_1 24 rfl rfl
theorem dksX46_init_3 : cX46_init.data.toList.drop 72 = dktX46_init_3 := dk_seg dksX46_init_2 24 rfl rfl
theorem dksX46_init_4 : cX46_init.data.toList.drop 96 = dktX46_init_4 := dk_seg dksX46_init_3 24 rfl rfl
theorem dksX46_init_5 : cX46_init.data.toList.drop 120 = dktX46_init_5 := dk_seg dksX46_init_4 24 rfl rfl
theorem dX46_init_0 : decode cX46_init 0 = .ok (.aload_n 0, 1) := dk_42 (dk_at dksX46_init_0 0 rfl rfl)
theorem dX46_init_1 : decode cX46_init 1 = .ok (.ldc 1, 2) := dk_18 1 (dk_at dksX46_init_0 1 rfl rfl)
theorem dX46_init_3 : decode cX46_init 3 = .ok (.invokespecial 3, 3) := dk_183 0 3 (dk_at dksX46_init_0 3 rfl rfl)
theorem dX46_init_6 : decode cX46_init 6 = .ok (.aload_n 0, 1) := dk_42 (dk_at dksX46_init_0 6 rfl rfl)
theorem dX46_init_7 : decode cX46_init 7 = .ok (.aload_n 1, 1) := dk_43 (dk_at dksX46_init_0 7 rfl rfl)
theorem dX46_init_8 : decode cX46_init 8 = .ok (.putfield 9, 3) := dk_181 0 9 (dk_at dksX46_init_0 8 rfl rfl)
theorem dX46_init_11 : decode cX46_init 11 = .ok (.aload_n 0, 1) := dk_42 (dk_at dksX46_init_0 11 rfl rfl)
theorem dX46_init_12 : decode cX46_init 12 = .ok (.ldc 14, 2) := dk_18 14 (dk_at dksX46_init_0 12 rfl rfl)
theorem dX46_init_14 : decode cX46_init 14 = .ok (.ldc 16, 2) := dk_18 16 (dk_at dksX46_init_0 14 rfl rfl)
theorem dX46_init_16 : decode cX46_init 16 = .ok (.invokevirtual 18, 3) := dk_182 0 18 (dk_at dksX46_init_0 16 rfl rfl)
theorem dX46_init_19 : decode cX46_init 19 = .ok (.aload_n 0, 1) := dk_42 (dk_at dksX46_init_0 19 rfl rfl)
theorem dX46_init_20 : decode cX46_init 20 = .ok (.ldc 22, 2) := dk_18 22 (dk_at dksX46_init_0 20 rfl rfl)
theorem dX46_init_22 : decode cX46_init 22 = .ok (.ldc 24, 2) := dk_18 24 (dk_at dksX46_init_0 22 rfl rfl)
theorem dX46_init_24 : decode cX46_init 24 = .ok (.invokevirtual 18, 3) := dk_182 0 18 (dk_at dksX46_init_1 0 rfl rfl)
theorem dX46_init_27 : decode cX46_init 27 = .ok (.aload_n 0, 1) := dk_42 (dk_at dksX46_init_1 3 rfl rfl)
theorem dX46_init_28 : decode cX46_init 28 = .ok (.ldc 26, 2) := dk_18 26 (dk_at dksX46_init_1 4 rfl rfl)
theorem dX46_init_30 : decode cX46_init 30 = .ok (.ldc 28, 2) := dk_18 28 (dk_at dksX46_init_1 6 rfl rfl)
theorem dX46_init_32 : decode cX46_init 32 = .ok (.invokevirtual 18, 3) := dk_182 0 18 (dk_at dksX46_init_1 8 rfl rfl)
theorem dX46_init_35 : decode cX46_init 35 = .ok (.aload_n 0, 1) := dk_42 (dk_at dksX46_init_1 11 rfl rfl)
theorem dX46_init_36 : decode cX46_init 36 = .ok (.ldc 30, 2) := dk_18 30 (dk_at dksX46_init_1 12 rfl rfl)
theorem dX46_init_38 : decode cX46_init 38 = .ok (.ldc 32, 2) := dk_18 32 (dk_at dksX46_init_1 14 rfl rfl)
theorem dX46_init_40 : decode cX46_init 40 = .ok (.invokevirtual 18, 3) := dk_182 0 18 (dk_at dksX46_init_1 16 rfl rfl)
theorem dX46_init_43 : decode cX46_init 43 = .ok (.aload_n 0, 1) := dk_42 (dk_at dksX46_init_1 19 rfl rfl)
theorem dX46_init_44 : decode cX46_init 44 = .ok (.ldc 34, 2) := dk_18 34 (dk_at dksX46_init_1 20 rfl rfl)
theorem dX46_init_46 : decode cX46_init 46 = .ok (.ldc 36, 2) := dk_18 36 (dk_at dksX46_init_1 22 rfl rfl)
theorem dX46_init_48 : decode cX46_init 48 = .ok (.invokevirtual 18, 3) := dk_182 0 18 (dk_at dksX46_init_2 0 rfl rfl)
theorem dX46_init_51 : decode cX46_init 51 = .ok (.aload_n 0, 1) := dk_42 (dk_at dksX46_init_2 3 rfl rfl)
theorem dX46_init_52 : decode cX46_init 52 = .ok (.ldc 38, 2) := dk_18 38 (dk_at dksX46_init_2 4 rfl rfl)
theorem dX46_init_54 : decode cX46_init 54 = .ok (.ldc 40, 2) := dk_18 40 (dk_at dksX46_init_2 6 rfl rfl)
theorem dX46_init_56 : decode cX46_init 56 = .ok (.invokevirtual 18, 3) := dk_182 0 18 (dk_at dksX46_init_2 8 rfl rfl)
theorem dX46_init_59 : decode cX46_init 59 = .ok (.aload_n 0, 1) := dk_42 (dk_at dksX46_init_2 11 rfl rfl)
theorem dX46_init_60 : decode cX46_init 60 = .ok (.ldc 42, 2) := dk_18 42 (dk_at dksX46_init_2 12 rfl rfl)
theorem dX46_init_62 : decode cX46_init 62 = .ok (.ldc 32, 2) := dk_18 32 (dk_at dksX46_init_2 14 rfl rfl)
theorem dX46_init_64 : decode cX46_init 64 = .ok (.invokevirtual 18, 3) := dk_182 0 18 (dk_at dksX46_init_2 16 rfl rfl)
theorem dX46_init_67 : decode cX46_init 67 = .ok (.aload_n 0, 1) := dk_42 (dk_at dksX46_init_2 19 rfl rfl)
theorem dX46_init_68 : decode cX46_init 68 = .ok (.ldc 44, 2) := dk_18 44 (dk_at dksX46_init_2 20 rfl rfl)
theorem dX46_init_70 : decode cX46_init 70 = .ok (.ldc 46, 2) := dk_18 46 (dk_at dksX46_init_2 22 rfl rfl)
theorem dX46_init_72 : decode cX46_init 72 = .ok (.invokevirtual 18, 3) := dk_182 0 18 (dk_at dksX46_init_3 0 rfl rfl)
theorem dX46_init_75 : decode cX46_init 75 = .ok (.aload_n 0, 1) := dk_42 (dk_at dksX46_init_3 3 rfl rfl)
theorem dX46_init_76 : decode cX46_init 76 = .ok (.ldc 48, 2) := dk_18 48 (dk_at dksX46_init_3 4 rfl rfl)
theorem dX46_init_78 : decode cX46_init 78 = .ok (.ldc 50, 2) := dk_18 50 (dk_at dksX46_init_3 6 rfl rfl)
theorem dX46_init_80 : decode cX46_init 80 = .ok (.invokevirtual 18, 3) := dk_182 0 18 (dk_at dksX46_init_3 8 rfl rfl)
theorem dX46_init_83 : decode cX46_init 83 = .ok (.aload_n 0, 1) := dk_42 (dk_at dksX46_init_3 11 rfl rfl)
theorem dX46_init_84 : decode cX46_init 84 = .ok (.ldc 52, 2) := dk_18 52 (dk_at dksX46_init_3 12 rfl rfl)
theorem dX46_init_86 : decode cX46_init 86 = .ok (.ldc 46, 2) := dk_18 46 (dk_at dksX46_init_3 14 rfl rfl)
theorem dX46_init_88 : decode cX46_init 88 = .ok (.invokevirtual 18, 3) := dk_182 0 18 (dk_at dksX46_init_3 16 rfl rfl)
theorem dX46_init_91 : decode cX46_init 91 = .ok (.aload_n 0, 1) := dk_42 (dk_at dksX46_init_3 19 rfl rfl)
theorem dX46_init_92 : decode cX46_init 92 = .ok (.ldc 54, 2) := dk_18 54 (dk_at dksX46_init_3 20 rfl rfl)
theorem dX46_init_94 : decode cX46_init 94 = .ok (.ldc 56, 2) := dk_18 56 (dk_at dksX46_init_3 22 rfl rfl)
theorem dX46_init_96 : decode cX46_init 96 = .ok (.invokevirtual 18, 3) := dk_182 0 18 (dk_at dksX46_init_4 0 rfl rfl)
theorem dX46_init_99 : decode cX46_init 99 = .ok (.aload_n 0, 1) := dk_42 (dk_at dksX46_init_4 3 rfl rfl)
theorem dX46_init_100 : decode cX46_init 100 = .ok (.ldc 58, 2) := dk_18 58 (dk_at dksX46_init_4 4 rfl rfl)
theorem dX46_init_102 : decode cX46_init 102 = .ok (.ldc 16, 2) := dk_18 16 (dk_at dksX46_init_4 6 rfl rfl)
theorem dX46_init_104 : decode cX46_init 104 = .ok (.invokevirtual 18, 3) := dk_182 0 18 (dk_at dksX46_init_4 8 rfl rfl)
theorem dX46_init_107 : decode cX46_init 107 = .ok (.aload_n 0, 1) := dk_42 (dk_at dksX46_init_4 11 rfl rfl)
theorem dX46_init_108 : decode cX46_init 108 = .ok (.ldc 60, 2) := dk_18 60 (dk_at dksX46_init_4 12 rfl rfl)
theorem dX46_init_110 : decode cX46_init 110 = .ok (.ldc 56, 2) := dk_18 56 (dk_at dksX46_init_4 14 rfl rfl)
theorem dX46_init_112 : decode cX46_init 112 = .ok (.invokevirtual 18, 3) := dk_182 0 18 (dk_at dksX46_init_4 16 rfl rfl)
theorem dX46_init_115 : decode cX46_init 115 = .ok (.aload_n 0, 1) := dk_42 (dk_at dksX46_init_4 19 rfl rfl)
theorem dX46_init_116 : decode cX46_init 116 = .ok (.ldc 62, 2) := dk_18 62 (dk_at dksX46_init_4 20 rfl rfl)
theorem dX46_init_118 : decode cX46_init 118 = .ok (.ldc 16, 2) := dk_18 16 (dk_at dksX46_init_4 22 rfl rfl)
theorem dX46_init_120 : decode cX46_init 120 = .ok (.invokevirtual 18, 3) := dk_182 0 18 (dk_at dksX46_init_5 0 rfl rfl)
theorem dX46_init_123 : decode cX46_init 123 = .ok (.aload_n 0, 1) := dk_42 (dk_at dksX46_init_5 3 rfl rfl)
theorem dX46_init_124 : decode cX46_init 124 = .ok (.ldc 64, 2) := dk_18 64 (dk_at dksX46_init_5 4 rfl rfl)
theorem dX46_init_126 : decode cX46_init 126 = .ok (.ldc 46, 2) := dk_18 46 (dk_at dksX46_init_5 6 rfl rfl)
theorem dX46_init_128 : decode cX46_init 128 = .ok (.invokevirtual 18, 3) := dk_182 0 18 (dk_at dksX46_init_5 8 rfl rfl)
theorem dX46_init_131 : decode cX46_init 131 = .ok (.return_, 1) := dk_177 (dk_at dksX46_init_5 11 rfl rfl)
abbrev cX46_call : ByteArray := prog_41_method_2_code
def yX46_call : MethodName := ⟨RX46, "call", "(I[J)J"⟩
def dkwX46_call_11 : List UInt8 := [182, 0, 112, 133, 173]
abbrev dktX46_call_11 : List UInt8 := dkwX46_call_11 ++ []
def dkwX46_call_10 : List UInt8 := [182, 0, 106, 184, 0, 86, 173, 42, 180, 0, 9, 29, 21, 4, 182, 0, 109, 173, 42, 180, 0, 9, 29]
abbrev dktX46_call_10 : List UInt8 := dkwX46_call_10 ++ dktX46_call_11
def dkwX46_call_9 : List UInt8 := [42, 180, 0, 9, 29, 21, 4, 182, 0, 104, 133, 173, 42, 180, 0, 9, 29, 44, 4, 47, 44, 5, 47]
abbrev dktX46_call_9 : List UInt8 := dkwX46_call_9 ++ dktX46_call_10
def dkwX46_call_8 : List UInt8 := [180, 0, 9, 29, 182, 0, 98, 173, 42, 180, 0, 9, 29, 44, 4, 47, 44, 5, 47, 182, 0, 101, 133, 173]
abbrev dktX46_call_8 : List UInt8 := dkwX46_call_8 ++ dktX46_call_9
def dkwX46_call_7 : List UInt8 := [133, 173, 42, 180, 0, 9, 44, 3, 47, 44, 4, 47, 44, 5, 47, 182, 0, 95, 184, 0, 86, 173, 42]
abbrev dktX46_call_7 : List UInt8 := dkwX46_call_7 ++ dktX46_call_8
def dkwX46_call_6 : List UInt8 := [173, 42, 180, 0, 9, 29, 21, 4, 44, 5, 47, 136, 182, 0, 90, 173, 42, 180, 0, 9, 29, 182, 0, 92]
abbrev dktX46_call_6 : List UInt8 := dkwX46_call_6 ++ dktX46_call_7
def dkwX46_call_5 : List UInt8 := [44, 3, 47, 182, 0, 80, 133, 173, 42, 180, 0, 9, 29, 21, 4, 44, 5, 47, 182, 0, 83, 184, 0, 86]
abbrev dktX46_call_5 : List UInt8 := dkwX46_call_5 ++ dktX46_call_6
def dkwX46_call_4 : List UInt8 := [182, 0, 74, 133, 173, 42, 180, 0, 9, 29, 21, 4, 44, 5, 47, 136, 182, 0, 77, 173, 42, 180, 0, 9]
abbrev dktX46_call_4 : List UInt8 := dkwX46_call_4 ++ dktX46_call_5
def dkwX46_call_3 : List UInt8 := [6, 47, 136, 182, 0, 71, 173, 42, 180, 0, 9, 29, 44, 4, 47, 44, 5, 47, 44, 6, 47, 44, 7, 47]
abbrev dktX46_call_3 : List UInt8 := dkwX46_call_3 ++ dktX46_call_4
def dkwX46_call_2 : List UInt8 := [42, 180, 0, 9, 29, 21, 4, 182, 0, 66, 133, 173, 42, 180, 0, 9, 29, 44, 4, 47, 44, 5, 47, 44]
abbrev dktX46_call_2 : List UInt8 := dkwX46_call_2 ++ dktX46_call_3
def dkwX46_call_1 : List UInt8 := [170, 0, 0, 0, 0, 0, 1, 24, 0, 0, 0, 0, 0, 0, 0, 13, 0, 0, 0, 72, 0, 0, 0, 84, 0, 0, 0, 103, 0, 0, 0, 125, 0, 0, 0, 140, 0, 0, 0, 152, 0, 0, 0, 169, 0, 0, 0, 184, 0, 0, 0, 194, 0, 0, 0, 214, 0, 0, 0, 223, 0, 0, 0, 239, 0, 0, 0, 251, 0, 0, 1, 13]
abbrev dktX46_call_1 : List UInt8 := dkwX46_call_1 ++ dktX46_call_2
def dkwX46_call_0 : List UInt8 := [44, 3, 47, 136, 62, 44, 4, 47, 136, 54, 4, 27]
abbrev dktX46_call_0 : List UInt8 := dkwX46_call_0 ++ dktX46_call_1
theorem dksX46_call_0 : cX46_call.data.toList.drop 0 = dktX46_call_0 := by decide +kernel
theorem dksX46_call_1 : cX46_call.data.toList.drop 12 = dktX46_call_1 := dk_seg dksX46_call_0 12 rfl rfl
theorem dksX46_call_2 : cX46_call.data.toList.drop 84 = dktX46_call_2 := dk_seg dksX46_call_1 72 rfl rfl
theorem dksX46_call_3 : cX46_call.data.toList.drop 108 = dktX46_call_3 := dk_seg dksX46_call_2 24 rfl rfl
theorem dksX46_call_4 : cX46_call.data.toList.drop 132 = dktX46_call_4 := dk_seg dksX46_call_3 24 rfl rfl
theorem dksX46_call_5 : cX46_call.data.toList.drop 156 = dktX46_call_5 := dk_seg dksX46_call_4 24 rfl rfl
theorem dksX46_call_6 : cX46_call.data.toList.drop 180 = dktX46_call_6 := dk_seg dksX46_call_5 24 rfl rfl
theorem dksX46_call_7 : cX46_call.data.toList.drop 204 = dktX46_call_7 := dk_seg dksX46_call_6 24 rfl rfl
theorem dksX46_call_8 : cX46_call.data.toList.drop 227 = dktX46_call_8 := dk_seg dksX46_call_7 23 rfl rfl
theorem dksX46_call_9 : cX46_call.data.toList.drop 251 = dktX46_call_9 := dk_seg dksX46_call_8 24 rfl rfl
theorem dksX46_call_10 : cX46_call.data.toList.drop 274 = dktX46_call_10 := dk_seg dksX46_call_9 23 rfl rfl
theorem dksX46_call_11 : cX46_call.data.toList.drop 297 = dktX46_call_11 := dk_seg dksX46_call_10 23 rfl rfl
theorem dX46_call_0 : decode cX46_call 0 = .ok (.aload_n 2, 1) := dk_44 (dk_at dksX46_call_0 0 rfl rfl)
theorem dX46_call_1 : decode cX46_call 1 = .ok (.iconst 0, 1) := dk_3 (dk_at dksX46_call_0 1 rfl rfl)
theorem dX46_call_2 : decode cX46_call 2 = .ok (.laload, 1) := dk_47 (dk_at dksX46_call_0 2 rfl rfl)
theorem dX46_call_3 : decode cX46_call 3 = .ok (.l2i, 1) := dk_136 (dk_at dksX46_call_0 3 rfl rfl)
theorem dX46_call_4 : decode cX46_call 4 = .ok (.istore_n 3, 1) := dk_62 (dk_at dksX46_call_0 4 rfl rfl)
theorem dX46_call_5 : decode cX46_call 5 = .ok (.aload_n 2, 1) := dk_44 (dk_at dksX46_call_0 5 rfl rfl)
theorem dX46_call_6 : decode cX46_call 6 = .ok (.iconst 1, 1) := dk_4 (dk_at dksX46_call_0 6 rfl rfl)
theorem dX46_call_7 : decode cX46_call 7 = .ok (.laload, 1) := dk_47 (dk_at dksX46_call_0 7 rfl rfl)
theorem dX46_call_8 : decode cX46_call 8 = .ok (.l2i, 1) := dk_136 (dk_at dksX46_call_0 8 rfl rfl)
theorem dX46_call_9 : decode cX46_call 9 = .ok (.istore 4, 2) := dk_54 4 (dk_at dksX46_call_0 9 rfl rfl)
theorem dX46_call_11 : decode cX46_call 11 = .ok (.iload_n 1, 1) := dk_27 (dk_at dksX46_call_0 11 rfl rfl)
theorem dX46_call_12 : decode cX46_call 12 = .ok (.tableswitch 280 0 13 #[72, 84, 103, 125, 140, 152, 169, 184, 194, 214, 223, 239, 251, 269], 72) := by decide +kernel
theorem dX46_call_84 : decode cX46_call 84 = .ok (.aload_n 0, 1) := dk_42 (dk_at dksX46_call_2 0 rfl rfl)
theorem dX46_call_85 : decode cX46_call 85 = .ok (.getfield 9, 3) := dk_180 0 9 (dk_at dksX46_call_2 1 rfl rfl)
theorem dX46_call_88 : decode cX46_call 88 = .ok (.iload_n 3, 1) := dk_29 (dk_at dksX46_call_2 4 rfl rfl)
theorem dX46_call_89 : decode cX46_call 89 = .ok (.iload 4, 2) := dk_21 4 (dk_at dksX46_call_2 5 rfl rfl)
theorem dX46_call_91 : decode cX46_call 91 = .ok (.invokevirtual 66, 3) := dk_182 0 66 (dk_at dksX46_call_2 7 rfl rfl)
theorem dX46_call_94 : decode cX46_call 94 = .ok (.i2l, 1) := dk_133 (dk_at dksX46_call_2 10 rfl rfl)
theorem dX46_call_95 : decode cX46_call 95 = .ok (.lreturn, 1) := dk_173 (dk_at dksX46_call_2 11 rfl rfl)
theorem dX46_call_96 : decode cX46_call 96 = .ok (.aload_n 0, 1) := dk_42 (dk_at dksX46_call_2 12 rfl rfl)
theorem dX46_call_97 : decode cX46_call 97 = .ok (.getfield 9, 3) := dk_180 0 9 (dk_at dksX46_call_2 13 rfl rfl)
theorem dX46_call_100 : decode cX46_call 100 = .ok (.iload_n 3, 1) := dk_29 (dk_at dksX46_call_2 16 rfl rfl)
theorem dX46_call_101 : decode cX46_call 101 = .ok (.aload_n 2, 1) := dk_44 (dk_at dksX46_call_2 17 rfl rfl)
theorem dX46_call_102 : decode cX46_call 102 = .ok (.iconst 1, 1) := dk_4 (dk_at dksX46_call_2 18 rfl rfl)
theorem dX46_call_103 : decode cX46_call 103 = .ok (.laload, 1) := dk_47 (dk_at dksX46_call_2 19 rfl rfl)
theorem dX46_call_104 : decode cX46_call 104 = .ok (.aload_n 2, 1) := dk_44 (dk_at dksX46_call_2 20 rfl rfl)
theorem dX46_call_105 : decode cX46_call 105 = .ok (.iconst 2, 1) := dk_5 (dk_at dksX46_call_2 21 rfl rfl)
theorem dX46_call_106 : decode cX46_call 106 = .ok (.laload, 1) := dk_47 (dk_at dksX46_call_2 22 rfl rfl)
theorem dX46_call_107 : decode cX46_call 107 = .ok (.aload_n 2, 1) := dk_44 (dk_at dksX46_call_2 23 rfl rfl)
theorem dX46_call_108 : decode cX46_call 108 = .ok (.iconst 3, 1) := dk_6 (dk_at dksX46_call_3 0 rfl rfl)
theorem dX46_call_109 : decode cX46_call 109 = .ok (.laload, 1) := dk_47 (dk_at dksX46_call_3 1 rfl rfl)
theorem dX46_call_110 : decode cX46_call 110 = .ok (.l2i, 1) := dk_136 (dk_at dksX46_call_3 2 rfl rfl)
theorem dX46_call_111 : decode cX46_call 111 = .ok (.invokevirtual 71, 3) := dk_182 0 71 (dk_at dksX46_call_3 3 rfl rfl)
theorem dX46_call_114 : decode cX46_call 114 = .ok (.lreturn, 1) := dk_173 (dk_at dksX46_call_3 6 rfl rfl)
theorem dX46_call_115 : decode cX46_call 115 = .ok (.aload_n 0, 1) := dk_42 (dk_at dksX46_call_3 7 rfl rfl)
theorem dX46_call_116 : decode cX46_call 116 = .ok (.getfield 9, 3) := dk_180 0 9 (dk_at dksX46_call_3 8 rfl rfl)
theorem dX46_call_119 : decode cX46_call 119 = .ok (.iload_n 3, 1) := dk_29 (dk_at dksX46_call_3 11 rfl rfl)
theorem dX46_call_120 : decode cX46_call 120 = .ok (.aload_n 2, 1) := dk_44 (dk_at dksX46_call_3 12 rfl rfl)
theorem dX46_call_121 : decode cX46_call 121 = .ok (.iconst 1, 1) := dk_4 (dk_at dksX46_call_3 13 rfl rfl)
theorem dX46_call_122 : decode cX46_call 122 = .ok (.laload, 1) := dk_47 (dk_at dksX46_call_3 14 rfl rfl)
theorem dX46_call_123 : decode cX46_call 123 = .ok (.aload_n 2, 1) := dk_44 (dk_at dksX46_call_3 15 rfl rfl)
theorem dX46_call_124 : decode cX46_call 124 = .ok (.iconst 2, 1) := dk_5 (dk_at dksX46_call_3 16 rfl rfl)
theorem dX46_call_125 : decode cX46_call 125 = .ok (.laload, 1) := dk_47 (dk_at dksX46_call_3 17 rfl rfl)
theorem dX46_call_126 : decode cX46_call 126 = .ok (.aload_n 2, 1) := dk_44 (dk_at dksX46_call_3 18 rfl rfl)
theorem dX46_call_127 : decode cX46_call 127 = .ok (.iconst 3, 1) := dk_6 (dk_at dksX46_call_3 19 rfl rfl)
theorem dX46_call_128 : decode cX46_call 128 = .ok (.laload, 1) := dk_47 (dk_at dksX46_call_3 20 rfl rfl)
theorem dX46_call_129 : decode cX46_call 129 = .ok (.aload_n 2, 1) := dk_44 (dk_at dksX46_call_3 21 rfl rfl)
theorem dX46_call_130 : decode cX46_call 130 = .ok (.iconst 4, 1) := dk_7 (dk_at dksX46_call_3 22 rfl rfl)
theorem dX46_call_131 : decode cX46_call 131 = .ok (.laload, 1) := dk_47 (dk_at dksX46_call_3 23 rfl rfl)
theorem dX46_call_132 : decode cX46_call 132 = .ok (.invokevirtual 74, 3) := dk_182 0 74 (dk_at dksX46_call_4 0 rfl rfl)
theorem dX46_call_135 : decode cX46_call 135 = .ok (.i2l, 1) := dk_133 (dk_at dksX46_call_4 3 rfl rfl)
theorem dX46_call_136 : decode cX46_call 136 = .ok (.lreturn, 1) := dk_173 (dk_at dksX46_call_4 4 rfl rfl)
theorem dX46_call_137 : decode cX46_call 137 = .ok (.aload_n 0, 1) := dk_42 (dk_at dksX46_call_4 5 rfl rfl)
theorem dX46_call_138 : decode cX46_call 138 = .ok (.getfield 9, 3) := dk_180 0 9 (dk_at dksX46_call_4 6 rfl rfl)
theorem dX46_call_141 : decode cX46_call 141 = .ok (.iload_n 3, 1) := dk_29 (dk_at dksX46_call_4 9 rfl rfl)
theorem dX46_call_142 : decode cX46_call 142 = .ok (.iload 4, 2) := dk_21 4 (dk_at dksX46_call_4 10 rfl rfl)
theorem dX46_call_144 : decode cX46_call 144 = .ok (.aload_n 2, 1) := dk_44 (dk_at dksX46_call_4 12 rfl rfl)
theorem dX46_call_145 : decode cX46_call 145 = .ok (.iconst 2, 1) := dk_5 (dk_at dksX46_call_4 13 rfl rfl)
theorem dX46_call_146 : decode cX46_call 146 = .ok (.laload, 1) := dk_47 (dk_at dksX46_call_4 14 rfl rfl)
theorem dX46_call_147 : decode cX46_call 147 = .ok (.l2i, 1) := dk_136 (dk_at dksX46_call_4 15 rfl rfl)
theorem dX46_call_148 : decode cX46_call 148 = .ok (.invokevirtual 77, 3) := dk_182 0 77 (dk_at dksX46_call_4 16 rfl rfl)
theorem dX46_call_151 : decode cX46_call 151 = .ok (.lreturn, 1) := dk_173 (dk_at dksX46_call_4 19 rfl rfl)
theorem dX46_call_152 : decode cX46_call 152 = .ok (.aload_n 0, 1) := dk_42 (dk_at dksX46_call_4 20 rfl rfl)
theorem dX46_call_153 : decode cX46_call 153 = .ok (.getfield 9, 3) := dk_180 0 9 (dk_at dksX46_call_4 21 rfl rfl)
theorem dX46_call_156 : decode cX46_call 156 = .ok (.aload_n 2, 1) := dk_44 (dk_at dksX46_call_5 0 rfl rfl)
theorem dX46_call_157 : decode cX46_call 157 = .ok (.iconst 0, 1) := dk_3 (dk_at dksX46_call_5 1 rfl rfl)
theorem dX46_call_158 : decode cX46_call 158 = .ok (.laload, 1) := dk_47 (dk_at dksX46_call_5 2 rfl rfl)
theorem dX46_call_159 : decode cX46_call 159 = .ok (.invokevirtual 80, 3) := dk_182 0 80 (dk_at dksX46_call_5 3 rfl rfl)
theorem dX46_call_162 : decode cX46_call 162 = .ok (.i2l, 1) := dk_133 (dk_at dksX46_call_5 6 rfl rfl)
theorem dX46_call_163 : decode cX46_call 163 = .ok (.lreturn, 1) := dk_173 (dk_at dksX46_call_5 7 rfl rfl)
theorem dX46_call_164 : decode cX46_call 164 = .ok (.aload_n 0, 1) := dk_42 (dk_at dksX46_call_5 8 rfl rfl)
theorem dX46_call_165 : decode cX46_call 165 = .ok (.getfield 9, 3) := dk_180 0 9 (dk_at dksX46_call_5 9 rfl rfl)
theorem dX46_call_168 : decode cX46_call 168 = .ok (.iload_n 3, 1) := dk_29 (dk_at dksX46_call_5 12 rfl rfl)
theorem dX46_call_169 : decode cX46_call 169 = .ok (.iload 4, 2) := dk_21 4 (dk_at dksX46_call_5 13 rfl rfl)
theorem dX46_call_171 : decode cX46_call 171 = .ok (.aload_n 2, 1) := dk_44 (dk_at dksX46_call_5 15 rfl rfl)
theorem dX46_call_172 : decode cX46_call 172 = .ok (.iconst 2, 1) := dk_5 (dk_at dksX46_call_5 16 rfl rfl)
theorem dX46_call_173 : decode cX46_call 173 = .ok (.laload, 1) := dk_47 (dk_at dksX46_call_5 17 rfl rfl)
theorem dX46_call_174 : decode cX46_call 174 = .ok (.invokevirtual 83, 3) := dk_182 0 83 (dk_at dksX46_call_5 18 rfl rfl)
theorem dX46_call_177 : decode cX46_call 177 = .ok (.invokestatic 86, 3) := dk_184 0 86 (dk_at dksX46_call_5 21 rfl rfl)
theorem dX46_call_180 : decode cX46_call 180 = .ok (.lreturn, 1) := dk_173 (dk_at dksX46_call_6 0 rfl rfl)
theorem dX46_call_181 : decode cX46_call 181 = .ok (.aload_n 0, 1) := dk_42 (dk_at dksX46_call_6 1 rfl rfl)
theorem dX46_call_182 : decode cX46_call 182 = .ok (.getfield 9, 3) := dk_180 0 9 (dk_at dksX46_call_6 2 rfl rfl)
theorem dX46_call_185 : decode cX46_call 185 = .ok (.iload_n 3, 1) := dk_29 (dk_at dksX46_call_6 5 rfl rfl)
theorem dX46_call_186 : decode cX46_call 186 = .ok (.iload 4, 2) := dk_21 4 (dk_at dksX46_call_6 6 rfl rfl)
theorem dX46_call_188 : decode cX46_call 188 = .ok (.aload_n 2, 1) := dk_44 (dk_at dksX46_call_6 8 rfl rfl)
theorem dX46_call_189 : decode cX46_call 189 = .ok (.iconst 2, 1) := dk_5 (dk_at dksX46_call_6 9 rfl rfl)
theorem dX46_call_190 : decode cX46_call 190 = .ok (.laload, 1) := dk_47 (dk_at dksX46_call_6 10 rfl rfl)
theorem dX46_call_191 : decode cX46_call 191 = .ok (.l2i, 1) := dk_136 (dk_at dksX46_call_6 11 rfl rfl)
theorem dX46_call_192 : decode cX46_call 192 = .ok (.invokevirtual 90, 3) := dk_182 0 90 (dk_at dksX46_call_6 12 rfl rfl)
theorem dX46_call_195 : decode cX46_call 195 = .ok (.lreturn, 1) := dk_173 (dk_at dksX46_call_6 15 rfl rfl)
theorem dX46_call_196 : decode cX46_call 196 = .ok (.aload_n 0, 1) := dk_42 (dk_at dksX46_call_6 16 rfl rfl)
theorem dX46_call_197 : decode cX46_call 197 = .ok (.getfield 9, 3) := dk_180 0 9 (dk_at dksX46_call_6 17 rfl rfl)
theorem dX46_call_200 : decode cX46_call 200 = .ok (.iload_n 3, 1) := dk_29 (dk_at dksX46_call_6 20 rfl rfl)
theorem dX46_call_201 : decode cX46_call 201 = .ok (.invokevirtual 92, 3) := dk_182 0 92 (dk_at dksX46_call_6 21 rfl rfl)
theorem dX46_call_204 : decode cX46_call 204 = .ok (.i2l, 1) := dk_133 (dk_at dksX46_call_7 0 rfl rfl)
theorem dX46_call_205 : decode cX46_call 205 = .ok (.lreturn, 1) := dk_173 (dk_at dksX46_call_7 1 rfl rfl)
theorem dX46_call_206 : decode cX46_call 206 = .ok (.aload_n 0, 1) := dk_42 (dk_at dksX46_call_7 2 rfl rfl)
theorem dX46_call_207 : decode cX46_call 207 = .ok (.getfield 9, 3) := dk_180 0 9 (dk_at dksX46_call_7 3 rfl rfl)
theorem dX46_call_210 : decode cX46_call 210 = .ok (.aload_n 2, 1) := dk_44 (dk_at dksX46_call_7 6 rfl rfl)
theorem dX46_call_211 : decode cX46_call 211 = .ok (.iconst 0, 1) := dk_3 (dk_at dksX46_call_7 7 rfl rfl)
theorem dX46_call_212 : decode cX46_call 212 = .ok (.laload, 1) := dk_47 (dk_at dksX46_call_7 8 rfl rfl)
theorem dX46_call_213 : decode cX46_call 213 = .ok (.aload_n 2, 1) := dk_44 (dk_at dksX46_call_7 9 rfl rfl)
theorem dX46_call_214 : decode cX46_call 214 = .ok (.iconst 1, 1) := dk_4 (dk_at dksX46_call_7 10 rfl rfl)
theorem dX46_call_215 : decode cX46_call 215 = .ok (.laload, 1) := dk_47 (dk_at dksX46_call_7 11 rfl rfl)
theorem dX46_call_216 : decode cX46_call 216 = .ok (.aload_n 2, 1) := dk_44 (dk_at dksX46_call_7 12 rfl rfl)
theorem dX46_call_217 : decode cX46_call 217 = .ok (.iconst 2, 1) := dk_5 (dk_at dksX46_call_7 13 rfl rfl)
theorem dX46_call_218 : decode cX46_call 218 = .ok (.laload, 1) := dk_47 (dk_at dksX46_call_7 14 rfl rfl)
theorem dX46_call_219 : decode cX46_call 219 = .ok (.invokevirtual 95, 3) := dk_182 0 95 (dk_at dksX46_call_7 15 rfl rfl)
theorem dX46_call_222 : decode cX46_call 222 = .ok (.invokestatic 86, 3) := dk_184 0 86 (dk_at dksX46_call_7 18 rfl rfl)
theorem dX46_call_225 : decode cX46_call 225 = .ok (.lreturn, 1) := dk_173 (dk_at dksX46_call_7 21 rfl rfl)
theorem dX46_call_226 : decode cX46_call 226 = .ok (.aload_n 0, 1) := dk_42 (dk_at dksX46_call_7 22 rfl rfl)
theorem dX46_call_227 : decode cX46_call 227 = .ok (.getfield 9, 3) := dk_180 0 9 (dk_at dksX46_call_8 0 rfl rfl)
theorem dX46_call_230 : decode cX46_call 230 = .ok (.iload_n 3, 1) := dk_29 (dk_at dksX46_call_8 3 rfl rfl)
theorem dX46_call_231 : decode cX46_call 231 = .ok (.invokevirtual 98, 3) := dk_182 0 98 (dk_at dksX46_call_8 4 rfl rfl)
theorem dX46_call_234 : decode cX46_call 234 = .ok (.lreturn, 1) := dk_173 (dk_at dksX46_call_8 7 rfl rfl)
theorem dX46_call_235 : decode cX46_call 235 = .ok (.aload_n 0, 1) := dk_42 (dk_at dksX46_call_8 8 rfl rfl)
theorem dX46_call_236 : decode cX46_call 236 = .ok (.getfield 9, 3) := dk_180 0 9 (dk_at dksX46_call_8 9 rfl rfl)
theorem dX46_call_239 : decode cX46_call 239 = .ok (.iload_n 3, 1) := dk_29 (dk_at dksX46_call_8 12 rfl rfl)
theorem dX46_call_240 : decode cX46_call 240 = .ok (.aload_n 2, 1) := dk_44 (dk_at dksX46_call_8 13 rfl rfl)
theorem dX46_call_241 : decode cX46_call 241 = .ok (.iconst 1, 1) := dk_4 (dk_at dksX46_call_8 14 rfl rfl)
theorem dX46_call_242 : decode cX46_call 242 = .ok (.laload, 1) := dk_47 (dk_at dksX46_call_8 15 rfl rfl)
theorem dX46_call_243 : decode cX46_call 243 = .ok (.aload_n 2, 1) := dk_44 (dk_at dksX46_call_8 16 rfl rfl)
theorem dX46_call_244 : decode cX46_call 244 = .ok (.iconst 2, 1) := dk_5 (dk_at dksX46_call_8 17 rfl rfl)
theorem dX46_call_245 : decode cX46_call 245 = .ok (.laload, 1) := dk_47 (dk_at dksX46_call_8 18 rfl rfl)
theorem dX46_call_246 : decode cX46_call 246 = .ok (.invokevirtual 101, 3) := dk_182 0 101 (dk_at dksX46_call_8 19 rfl rfl)
theorem dX46_call_249 : decode cX46_call 249 = .ok (.i2l, 1) := dk_133 (dk_at dksX46_call_8 22 rfl rfl)
theorem dX46_call_250 : decode cX46_call 250 = .ok (.lreturn, 1) := dk_173 (dk_at dksX46_call_8 23 rfl rfl)
theorem dX46_call_251 : decode cX46_call 251 = .ok (.aload_n 0, 1) := dk_42 (dk_at dksX46_call_9 0 rfl rfl)
theorem dX46_call_252 : decode cX46_call 252 = .ok (.getfield 9, 3) := dk_180 0 9 (dk_at dksX46_call_9 1 rfl rfl)
theorem dX46_call_255 : decode cX46_call 255 = .ok (.iload_n 3, 1) := dk_29 (dk_at dksX46_call_9 4 rfl rfl)
theorem dX46_call_256 : decode cX46_call 256 = .ok (.iload 4, 2) := dk_21 4 (dk_at dksX46_call_9 5 rfl rfl)
theorem dX46_call_258 : decode cX46_call 258 = .ok (.invokevirtual 104, 3) := dk_182 0 104 (dk_at dksX46_call_9 7 rfl rfl)
theorem dX46_call_261 : decode cX46_call 261 = .ok (.i2l, 1) := dk_133 (dk_at dksX46_call_9 10 rfl rfl)
theorem dX46_call_262 : decode cX46_call 262 = .ok (.lreturn, 1) := dk_173 (dk_at dksX46_call_9 11 rfl rfl)
theorem dX46_call_263 : decode cX46_call 263 = .ok (.aload_n 0, 1) := dk_42 (dk_at dksX46_call_9 12 rfl rfl)
theorem dX46_call_264 : decode cX46_call 264 = .ok (.getfield 9, 3) := dk_180 0 9 (dk_at dksX46_call_9 13 rfl rfl)
theorem dX46_call_267 : decode cX46_call 267 = .ok (.iload_n 3, 1) := dk_29 (dk_at dksX46_call_9 16 rfl rfl)
theorem dX46_call_268 : decode cX46_call 268 = .ok (.aload_n 2, 1) := dk_44 (dk_at dksX46_call_9 17 rfl rfl)
theorem dX46_call_269 : decode cX46_call 269 = .ok (.iconst 1, 1) := dk_4 (dk_at dksX46_call_9 18 rfl rfl)
theorem dX46_call_270 : decode cX46_call 270 = .ok (.laload, 1) := dk_47 (dk_at dksX46_call_9 19 rfl rfl)
theorem dX46_call_271 : decode cX46_call 271 = .ok (.aload_n 2, 1) := dk_44 (dk_at dksX46_call_9 20 rfl rfl)
theorem dX46_call_272 : decode cX46_call 272 = .ok (.iconst 2, 1) := dk_5 (dk_at dksX46_call_9 21 rfl rfl)
theorem dX46_call_273 : decode cX46_call 273 = .ok (.laload, 1) := dk_47 (dk_at dksX46_call_9 22 rfl rfl)
theorem dX46_call_274 : decode cX46_call 274 = .ok (.invokevirtual 106, 3) := dk_182 0 106 (dk_at dksX46_call_10 0 rfl rfl)
theorem dX46_call_277 : decode cX46_call 277 = .ok (.invokestatic 86, 3) := dk_184 0 86 (dk_at dksX46_call_10 3 rfl rfl)
theorem dX46_call_280 : decode cX46_call 280 = .ok (.lreturn, 1) := dk_173 (dk_at dksX46_call_10 6 rfl rfl)
theorem dX46_call_281 : decode cX46_call 281 = .ok (.aload_n 0, 1) := dk_42 (dk_at dksX46_call_10 7 rfl rfl)
theorem dX46_call_282 : decode cX46_call 282 = .ok (.getfield 9, 3) := dk_180 0 9 (dk_at dksX46_call_10 8 rfl rfl)
theorem dX46_call_285 : decode cX46_call 285 = .ok (.iload_n 3, 1) := dk_29 (dk_at dksX46_call_10 11 rfl rfl)
theorem dX46_call_286 : decode cX46_call 286 = .ok (.iload 4, 2) := dk_21 4 (dk_at dksX46_call_10 12 rfl rfl)
theorem dX46_call_288 : decode cX46_call 288 = .ok (.invokevirtual 109, 3) := dk_182 0 109 (dk_at dksX46_call_10 14 rfl rfl)
theorem dX46_call_291 : decode cX46_call 291 = .ok (.lreturn, 1) := dk_173 (dk_at dksX46_call_10 17 rfl rfl)
theorem dX46_call_292 : decode cX46_call 292 = .ok (.aload_n 0, 1) := dk_42 (dk_at dksX46_call_10 18 rfl rfl)
theorem dX46_call_293 : decode cX46_call 293 = .ok (.getfield 9, 3) := dk_180 0 9 (dk_at dksX46_call_10 19 rfl rfl)
theorem dX46_call_296 : decode cX46_call 296 = .ok (.iload_n 3, 1) := dk_29 (dk_at dksX46_call_10 22 rfl rfl)
theorem dX46_call_297 : decode cX46_call 297 = .ok (.invokevirtual 112, 3) := dk_182 0 112 (dk_at dksX46_call_11 0 rfl rfl)
theorem dX46_call_300 : decode cX46_call 300 = .ok (.i2l, 1) := dk_133 (dk_at dksX46_call_11 3 rfl rfl)
theorem dX46_call_301 : decode cX46_call 301 = .ok (.lreturn, 1) := dk_173 (dk_at dksX46_call_11 4 rfl rfl)
theorem q452 : (Jvm.Cond.initialized "WasteHouse$SampleRoom") ∈ lw_all := lw_g (lw_at lw_m1 60 rfl) rfl
theorem q2010 : (Jvm.Cond.selects "WasteHouse$SampleRoom" ({ cls := "java/lang/Object", name := "getClass", desc := "()Ljava/lang/Class;" } : Jvm.MethodName) ({ cls := "java/lang/Object", name := "getClass", desc := "()Ljava/lang/Class;" } : Jvm.MethodName)) ∈ lw_all := lw_g (lw_at lw_m7 178 rfl) rfl
theorem q2442 : (Jvm.Cond.instantiable "WasteHouse$SampleRoom" (4 : Nat)) ∈ lw_all := lw_g (lw_at lw_m9 130 rfl) rfl
theorem q2444 : (Jvm.Cond.instanceMethod ({ cls := "WasteHouse$SampleRoom", name := "<init>", desc := "(LWasteHouse$PurityOdds;)V" } : Jvm.MethodName)) ∈ lw_all := lw_g (lw_at lw_m9 132 rfl) rfl
theorem q2445 : (Jvm.Cond.code ({ cls := "WasteHouse$SampleRoom", name := "<init>", desc := "(LWasteHouse$PurityOdds;)V" } : Jvm.MethodName) prog_41_method_1_code (2 : Nat) (Option.none : Option Jvm.ClassFile.FieldType)) ∈ lw_all := lw_g (lw_at lw_m9 133 rfl) rfl
theorem q2446 : (Jvm.Cond.stringRef "WasteHouse$SampleRoom" (1 : Nat) "samples") ∈ lw_tbl := lw_at lw_m9 134 rfl
theorem q2447 : (Jvm.Cond.methodLink "WasteHouse$SampleRoom" (3 : Nat) ({ cls := "WasteHouse$Room", name := "<init>", desc := "(Ljava/lang/String;)V" } : Jvm.MethodName)) ∈ lw_all := lw_g (lw_at lw_m9 135 rfl) rfl
theorem q2448 : (Jvm.Cond.stringRef "WasteHouse$SampleRoom" (14 : Nat) "plan") ∈ lw_tbl := lw_at lw_m9 136 rfl
theorem q2449 : (Jvm.Cond.stringRef "WasteHouse$SampleRoom" (16 : Nat) "ii") ∈ lw_tbl := lw_at lw_m9 137 rfl
theorem q2450 : (Jvm.Cond.methodLink "WasteHouse$SampleRoom" (18 : Nat) ({ cls := "WasteHouse$SampleRoom", name := "add", desc := "(Ljava/lang/String;Ljava/lang/String;)V" } : Jvm.MethodName)) ∈ lw_all := lw_g (lw_at lw_m9 138 rfl) rfl
theorem q2451 : (Jvm.Cond.sameMethod "WasteHouse$SampleRoom" "WasteHouse$Room" "add" "(Ljava/lang/String;Ljava/lang/String;)V") ∈ lw_all := lw_g (lw_at lw_m9 139 rfl) rfl
theorem q2452 : (Jvm.Cond.selects "WasteHouse$SampleRoom" ({ cls := "WasteHouse$SampleRoom", name := "add", desc := "(Ljava/lang/String;Ljava/lang/String;)V" } : Jvm.MethodName) ({ cls := "WasteHouse$Room", name := "add", desc := "(Ljava/lang/String;Ljava/lang/String;)V" } : Jvm.MethodName)) ∈ lw_all := lw_g (lw_at lw_m9 140 rfl) rfl
theorem q2453 : (Jvm.Cond.stringRef "WasteHouse$SampleRoom" (22 : Nat) "odds") ∈ lw_tbl := lw_at lw_m9 141 rfl
theorem q2454 : (Jvm.Cond.stringRef "WasteHouse$SampleRoom" (24 : Nat) "illi") ∈ lw_tbl := lw_at lw_m9 142 rfl
theorem q2455 : (Jvm.Cond.stringRef "WasteHouse$SampleRoom" (26 : Nat) "best") ∈ lw_tbl := lw_at lw_m9 143 rfl
theorem q2456 : (Jvm.Cond.stringRef "WasteHouse$SampleRoom" (28 : Nat) "illll") ∈ lw_tbl := lw_at lw_m9 144 rfl
theorem q2457 : (Jvm.Cond.stringRef "WasteHouse$SampleRoom" (30 : Nat) "risk") ∈ lw_tbl := lw_at lw_m9 145 rfl
theorem q2458 : (Jvm.Cond.stringRef "WasteHouse$SampleRoom" (32 : Nat) "iii") ∈ lw_tbl := lw_at lw_m9 146 rfl
theorem q2459 : (Jvm.Cond.stringRef "WasteHouse$SampleRoom" (34 : Nat) "lot") ∈ lw_tbl := lw_at lw_m9 147 rfl
theorem q2460 : (Jvm.Cond.stringRef "WasteHouse$SampleRoom" (36 : Nat) "l") ∈ lw_tbl := lw_at lw_m9 148 rfl
theorem q2461 : (Jvm.Cond.stringRef "WasteHouse$SampleRoom" (38 : Nat) "piece") ∈ lw_tbl := lw_at lw_m9 149 rfl
theorem q2462 : (Jvm.Cond.stringRef "WasteHouse$SampleRoom" (40 : Nat) "iil") ∈ lw_tbl := lw_at lw_m9 150 rfl
theorem q2463 : (Jvm.Cond.stringRef "WasteHouse$SampleRoom" (42 : Nat) "share") ∈ lw_tbl := lw_at lw_m9 151 rfl
theorem q2464 : (Jvm.Cond.stringRef "WasteHouse$SampleRoom" (44 : Nat) "repeats") ∈ lw_tbl := lw_at lw_m9 152 rfl
theorem q2465 : (Jvm.Cond.stringRef "WasteHouse$SampleRoom" (46 : Nat) "i") ∈ lw_tbl := lw_at lw_m9 153 rfl
theorem q2466 : (Jvm.Cond.stringRef "WasteHouse$SampleRoom" (48 : Nat) "step") ∈ lw_tbl := lw_at lw_m9 154 rfl
theorem q2467 : (Jvm.Cond.stringRef "WasteHouse$SampleRoom" (50 : Nat) "lll") ∈ lw_tbl := lw_at lw_m9 155 rfl
theorem q2468 : (Jvm.Cond.stringRef "WasteHouse$SampleRoom" (52 : Nat) "price") ∈ lw_tbl := lw_at lw_m9 156 rfl
theorem q2469 : (Jvm.Cond.stringRef "WasteHouse$SampleRoom" (54 : Nat) "third") ∈ lw_tbl := lw_at lw_m9 157 rfl
theorem q2470 : (Jvm.Cond.stringRef "WasteHouse$SampleRoom" (56 : Nat) "ill") ∈ lw_tbl := lw_at lw_m9 158 rfl
theorem q2471 : (Jvm.Cond.stringRef "WasteHouse$SampleRoom" (58 : Nat) "place") ∈ lw_tbl := lw_at lw_m9 159 rfl
theorem q2472 : (Jvm.Cond.stringRef "WasteHouse$SampleRoom" (60 : Nat) "dry") ∈ lw_tbl := lw_at lw_m9 160 rfl
theorem q2473 : (Jvm.Cond.stringRef "WasteHouse$SampleRoom" (62 : Nat) "moisture") ∈ lw_tbl := lw_at lw_m9 161 rfl
theorem q2474 : (Jvm.Cond.stringRef "WasteHouse$SampleRoom" (64 : Nat) "trend") ∈ lw_tbl := lw_at lw_m9 162 rfl
theorem q2475 : (Jvm.Cond.fieldLink "WasteHouse$SampleRoom" (9 : Nat) "WasteHouse$SampleRoom" "samples" "LWasteHouse$PurityOdds;") ∈ lw_all := lw_g (lw_at lw_m9 163 rfl) rfl
theorem q2476 : (Jvm.Cond.laysFinal "WasteHouse$SampleRoom" "WasteHouse$SampleRoom" "samples" "LWasteHouse$PurityOdds;") ∈ lw_all := lw_g (lw_at lw_m9 164 rfl) rfl
theorem q2477 : (Jvm.Cond.soleField "WasteHouse$SampleRoom" "samples") ∈ lw_all := lw_g (lw_at lw_m9 165 rfl) rfl
theorem q2478 : (Jvm.Cond.laysFinal "WasteHouse$SampleRoom" "WasteHouse$Room" "name" "Ljava/lang/String;") ∈ lw_all := lw_g (lw_at lw_m9 166 rfl) rfl
theorem q2479 : (Jvm.Cond.laysFinal "WasteHouse$SampleRoom" "WasteHouse$Room" "words" "Ljava/util/ArrayList;") ∈ lw_all := lw_g (lw_at lw_m9 167 rfl) rfl
theorem q2480 : (Jvm.Cond.laysFinal "WasteHouse$SampleRoom" "WasteHouse$Room" "needs" "Ljava/util/ArrayList;") ∈ lw_all := lw_g (lw_at lw_m9 168 rfl) rfl
theorem q2481 : (Jvm.Cond.superclass "WasteHouse$SampleRoom" "WasteHouse$Room") ∈ lw_all := lw_g (lw_at lw_m9 169 rfl) rfl
theorem q3064 : (Jvm.Cond.selects "WasteHouse$SampleRoom" ({ cls := "WasteHouse$Room", name := "find", desc := "(Ljava/lang/String;)I" } : Jvm.MethodName) ({ cls := "WasteHouse$Room", name := "find", desc := "(Ljava/lang/String;)I" } : Jvm.MethodName)) ∈ lw_all := lw_g (lw_at lw_m12 32 rfl) rfl
theorem q3120 : (Jvm.Cond.selects "WasteHouse$SampleRoom" ({ cls := "java/lang/Object", name := "equals", desc := "(Ljava/lang/Object;)Z" } : Jvm.MethodName) ({ cls := "java/lang/Object", name := "equals", desc := "(Ljava/lang/Object;)Z" } : Jvm.MethodName)) ∈ lw_all := lw_g (lw_at lw_m12 88 rfl) rfl
theorem q3178 : (Jvm.Cond.selects "WasteHouse$SampleRoom" ({ cls := "WasteHouse$Room", name := "need", desc := "(I)Ljava/lang/String;" } : Jvm.MethodName) ({ cls := "WasteHouse$Room", name := "need", desc := "(I)Ljava/lang/String;" } : Jvm.MethodName)) ∈ lw_all := lw_g (lw_at lw_m12 146 rfl) rfl
theorem q3638 : (Jvm.Cond.selects "WasteHouse$SampleRoom" ({ cls := "java/lang/Object", name := "hashCode", desc := "()I" } : Jvm.MethodName) ({ cls := "java/lang/Object", name := "hashCode", desc := "()I" } : Jvm.MethodName)) ∈ lw_all := lw_g (lw_at lw_m14 126 rfl) rfl
theorem q6264 : (Jvm.Cond.selects "WasteHouse$SampleRoom" ({ cls := "WasteHouse$Room", name := "call", desc := "(I[J)J" } : Jvm.MethodName) ({ cls := "WasteHouse$SampleRoom", name := "call", desc := "(I[J)J" } : Jvm.MethodName)) ∈ lw_all := lw_g (lw_at lw_m25 112 rfl) rfl
theorem q6265 : (Jvm.Cond.instanceMethod ({ cls := "WasteHouse$SampleRoom", name := "call", desc := "(I[J)J" } : Jvm.MethodName)) ∈ lw_all := lw_g (lw_at lw_m25 113 rfl) rfl
theorem q6266 : (Jvm.Cond.code ({ cls := "WasteHouse$SampleRoom", name := "call", desc := "(I[J)J" } : Jvm.MethodName) prog_41_method_2_code (5 : Nat) (Option.some Jvm.ClassFile.FieldType.long)) ∈ lw_all := lw_g (lw_at lw_m25 114 rfl) rfl
theorem q6267 : (Jvm.Cond.methodLink "WasteHouse$SampleRoom" (66 : Nat) ({ cls := "WasteHouse$PurityOdds", name := "plan", desc := "(II)I" } : Jvm.MethodName)) ∈ lw_all := lw_g (lw_at lw_m25 115 rfl) rfl
theorem q6272 : (Jvm.Cond.methodLink "WasteHouse$SampleRoom" (71 : Nat) ({ cls := "WasteHouse$PurityOdds", name := "odds", desc := "(IJJI)J" } : Jvm.MethodName)) ∈ lw_all := lw_g (lw_at lw_m25 120 rfl) rfl
theorem q6288 : (Jvm.Cond.methodLink "WasteHouse$SampleRoom" (74 : Nat) ({ cls := "WasteHouse$PurityOdds", name := "best", desc := "(IJJJJ)I" } : Jvm.MethodName)) ∈ lw_all := lw_g (lw_at lw_m25 136 rfl) rfl
theorem q6297 : (Jvm.Cond.methodLink "WasteHouse$SampleRoom" (77 : Nat) ({ cls := "WasteHouse$PurityOdds", name := "risk", desc := "(III)J" } : Jvm.MethodName)) ∈ lw_all := lw_g (lw_at lw_m25 145 rfl) rfl
theorem q6301 : (Jvm.Cond.methodLink "WasteHouse$SampleRoom" (80 : Nat) ({ cls := "WasteHouse$PurityOdds", name := "lot", desc := "(J)I" } : Jvm.MethodName)) ∈ lw_all := lw_g (lw_at lw_m25 149 rfl) rfl
theorem q6302 : (Jvm.Cond.methodLink "WasteHouse$SampleRoom" (83 : Nat) ({ cls := "WasteHouse$PurityOdds", name := "piece", desc := "(IIJ)Z" } : Jvm.MethodName)) ∈ lw_all := lw_g (lw_at lw_m25 150 rfl) rfl
theorem q6303 : (Jvm.Cond.methodLink "WasteHouse$SampleRoom" (86 : Nat) ({ cls := "WasteHouse$SampleRoom", name := "bit", desc := "(Z)J" } : Jvm.MethodName)) ∈ lw_all := lw_g (lw_at lw_m25 151 rfl) rfl
theorem q6304 : (Jvm.Cond.sameMethod "WasteHouse$SampleRoom" "WasteHouse$Room" "bit" "(Z)J") ∈ lw_all := lw_g (lw_at lw_m25 152 rfl) rfl
theorem q6305 : (Jvm.Cond.methodLink "WasteHouse$SampleRoom" (90 : Nat) ({ cls := "WasteHouse$PurityOdds", name := "share", desc := "(III)J" } : Jvm.MethodName)) ∈ lw_all := lw_g (lw_at lw_m25 153 rfl) rfl
theorem q6306 : (Jvm.Cond.methodLink "WasteHouse$SampleRoom" (92 : Nat) ({ cls := "WasteHouse$PurityOdds", name := "repeats", desc := "(I)I" } : Jvm.MethodName)) ∈ lw_all := lw_g (lw_at lw_m25 154 rfl) rfl
theorem q6310 : (Jvm.Cond.methodLink "WasteHouse$SampleRoom" (95 : Nat) ({ cls := "WasteHouse$PurityOdds", name := "step", desc := "(JJJ)Z" } : Jvm.MethodName)) ∈ lw_all := lw_g (lw_at lw_m25 158 rfl) rfl
theorem q6315 : (Jvm.Cond.methodLink "WasteHouse$SampleRoom" (98 : Nat) ({ cls := "WasteHouse$PurityOdds", name := "price", desc := "(I)J" } : Jvm.MethodName)) ∈ lw_all := lw_g (lw_at lw_m25 163 rfl) rfl
theorem q6316 : (Jvm.Cond.methodLink "WasteHouse$SampleRoom" (101 : Nat) ({ cls := "WasteHouse$PurityOdds", name := "third", desc := "(IJJ)I" } : Jvm.MethodName)) ∈ lw_all := lw_g (lw_at lw_m25 164 rfl) rfl
theorem q6320 : (Jvm.Cond.methodLink "WasteHouse$SampleRoom" (104 : Nat) ({ cls := "WasteHouse$PurityOdds", name := "place", desc := "(II)I" } : Jvm.MethodName)) ∈ lw_all := lw_g (lw_at lw_m25 168 rfl) rfl
theorem q6325 : (Jvm.Cond.methodLink "WasteHouse$SampleRoom" (106 : Nat) ({ cls := "WasteHouse$PurityOdds", name := "dry", desc := "(IJJ)Z" } : Jvm.MethodName)) ∈ lw_all := lw_g (lw_at lw_m25 173 rfl) rfl
theorem q6329 : (Jvm.Cond.methodLink "WasteHouse$SampleRoom" (109 : Nat) ({ cls := "WasteHouse$PurityOdds", name := "moisture", desc := "(II)J" } : Jvm.MethodName)) ∈ lw_all := lw_g (lw_at lw_m25 177 rfl) rfl
theorem q6337 : (Jvm.Cond.methodLink "WasteHouse$SampleRoom" (112 : Nat) ({ cls := "WasteHouse$PurityOdds", name := "trend", desc := "(I)I" } : Jvm.MethodName)) ∈ lw_all := lw_g (lw_at lw_m25 185 rfl) rfl
theorem q9615 : (Jvm.Cond.castable "WasteHouse$SampleRoom" "WasteHouse$Room") ∈ lw_tbl := lw_at lw_m39 103 rfl
theorem q9669 : (Jvm.Cond.castable "WasteHouse$SampleRoom" "java/lang/Object") ∈ lw_tbl := lw_at lw_m39 157 rfl
theorem in_X46 : ∀ w ∈ wsX460, w ∈ lw_all := lw_in wsX460 [2478, 2479, 2480, 2476] (by decide +kernel) (by decide +kernel)
