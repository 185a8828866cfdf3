/-! WasteHouse$DepositRoom -/
set_option maxRecDepth 100000
def RX47 : String := "WasteHouse$DepositRoom"
def TX47 : u_T := fun k => match k with
  | 0 => ("WasteHouse$Room", "name", "Ljava/lang/String;", true)
  | 1 => ("WasteHouse$Room", "words", "Ljava/util/ArrayList;", true)
  | 2 => ("WasteHouse$Room", "needs", "Ljava/util/ArrayList;", true)
  | _ => ("WasteHouse$DepositRoom", "codes", "LWasteHouse$DepositCodes;", true)
def tyX47 : Nat → FieldType := fun k => match k with
  | 0 => .object "java/lang/String"
  | 1 => .object "java/util/ArrayList"
  | 2 => .object "java/util/ArrayList"
  | _ => .object "WasteHouse$DepositCodes"
abbrev wsX470 : List Cond := u_ws RX47 TX47 4
theorem nmX47 : ∀ a, a < 4 → ∀ b, b < 4 → a ≠ b → (TX47 a).2.1 ≠ (TX47 b).2.1 := by decide +kernel
theorem tyX47_ok : ∀ k, k < 4 → parseFieldDescriptor (TX47 k).2.2.1 = some (tyX47 k) := by decide +kernel
abbrev cX47_init : ByteArray := prog_16_method_1_code
def yX47_init : MethodName := ⟨RX47, "<init>", "(LWasteHouse$DepositCodes;)V"⟩
def dkwX47_init_7 : List UInt8 := [182, 0, 19, 42, 18, 75, 18, 31, 182, 0, 19, 42, 18, 77, 18, 31, 182, 0, 19, 177]
abbrev dktX47_init_7 : List UInt8 := dkwX47_init_7 ++ []
def dkwX47_init_6 : List UInt8 := [182, 0, 19, 42, 18, 69, 18, 17, 182, 0, 19, 42, 18, 71, 18, 31, 182, 0, 19, 42, 18, 73, 18, 31]
abbrev dktX47_init_6 : List UInt8 := dkwX47_init_6 ++ dktX47_init_7
def dkwX47_init_5 : List UInt8 := [182, 0, 19, 42, 18, 61, 18, 17, 182, 0, 19, 42, 18, 63, 18, 65, 182, 0, 19, 42, 18, 67, 18, 31]
abbrev dktX47_init_5 : List UInt8 := dkwX47_init_5 ++ dktX47_init_6
def dkwX47_init_4 : List UInt8 := [182, 0, 19, 42, 18, 55, 18, 25, 182, 0, 19, 42, 18, 57, 18, 17, 182, 0, 19, 42, 18, 59, 18, 17]
abbrev dktX47_init_4 : List UInt8 := dkwX47_init_4 ++ dktX47_init_5
def dkwX47_init_3 : List UInt8 := [182, 0, 19, 42, 18, 45, 18, 47, 182, 0, 19, 42, 18, 49, 18, 47, 182, 0, 19, 42, 18, 51, 18, 53]
abbrev dktX47_init_3 : List UInt8 := dkwX47_init_3 ++ dktX47_init_4
def dkwX47_init_2 : List UInt8 := [182, 0, 19, 42, 18, 37, 18, 35, 182, 0, 19, 42, 18, 39, 18, 25, 182, 0, 19, 42, 18, 41, 18, 43]
abbrev dktX47_init_2 : List UInt8 := dkwX47_init_2 ++ dktX47_init_3
def dkwX47_init_1 : List UInt8 := [182, 0, 19, 42, 18, 27, 18, 25, 182, 0, 19, 42, 18, 29, 18, 31, 182, 0, 19, 42, 18, 33, 18, 35]
abbrev dktX47_init_1 : List UInt8 := dkwX47_init_1 ++ dktX47_init_2
def dkwX47_init_0 : List UInt8 := [42, 18, 1, 183, 0, 3, 42, 43, 181, 0, 9, 42, 18, 15, 18, 17, 182, 0, 19, 42, 18, 23, 18, 25]
abbrev dktX47_init_0 : List UInt8 := dkwX47_init_0 ++ dktX47_init_1
theorem dksX47_init_0 : cX47_init.data.toList.drop 0 = dktX47_init_0 := by decide +kernel
theorem dksX47_init_1 : cX47_init.data.toList.drop 24 = dktX47_init_1 := dk_seg dksX47_init_0 24 rfl rfl
theorem dksX47_init_2 : cX47_init.data.toList.drop 48 = dktX47_init_2 := dk_seg dksX47_init_1 24 rfl rfl
theorem dksX47_init_3 : cX47_init.data.toList.drop 72 = dktX47_init_3 := dk_seg dksX47_init_2 24 rfl rfl
theorem dksX47_init_4 : cX47_init.data.toList.drop 96 = dktX47_init_4 := dk_seg dksX47_init_3 24 rfl rfl
theorem dksX47_init_5 : cX47_init.data.toList.drop 120 = dktX47_init_5 := dk_seg dksX47_init_4 24 rfl rfl
theorem dksX47_init_6 : cX47_init.data.toList.drop 144 = dktX47_init_6 := dk_seg dksX47_init_5 24 rfl rfl
theorem dksX47_init_7 : cX47_init.data.toList.drop 168 = dktX47_init_7 := dk_seg dksX47_init_6 24 rfl rfl
theorem dX47_init_0 : decode cX47_init 0 = .ok (.aload_n 0, 1) := dk_42 (dk_at dksX47_init_0 0 rfl rfl)
theorem dX47_init_1 : decode cX47_init 1 = .ok (.ldc 1, 2) := dk_18 1 (dk_at dksX47_init_0 1 rfl rfl)
theorem dX47_init_3 : decode cX47_init 3 = .ok (.invokespecial 3, 3) := dk_183 0 3 (dk_at dksX47_init_0 3 rfl rfl)
theorem dX47_init_6 : decode cX47_init 6 = .ok (.aload_n 0, 1) := dk_42 (dk_at dksX47_init_0 6 rfl rfl)
theorem dX47_init_7 : decode cX47_init 7 = .ok (.aload_n 1, 1) := dk_43 (dk_at dksX47_init_0 7 rfl rfl)
theorem dX47_init_8 : decode cX47_init 8 = .ok (.putfield 9, 3) := dk_181 0 9 (dk_at dksX47_init_0 8 rfl rfl)
theorem dX47_init_11 : decode cX47_init 11 = .ok (.aload_n 0, 1) := dk_42 (dk_at dksX47_init_0 11 rfl rfl)
theorem dX47_init_12 : decode cX47_init 12 = .ok (.ldc 15, 2) := dk_18 15 (dk_at dksX47_init_0 12 rfl rfl)
theorem dX47_init_14 : decode cX47_init 14 = .ok (.ldc 17, 2) := dk_18 17 (dk_at dksX47_init_0 14 rfl rfl)
theorem dX47_init_16 : decode cX47_init 16 = .ok (.invokevirtual 19, 3) := dk_182 0 19 (dk_at dksX47_init_0 16 rfl rfl)
theorem dX47_init_19 : decode cX47_init 19 = .ok (.aload_n 0, 1) := dk_42 (dk_at dksX47_init_0 19 rfl rfl)
theorem dX47_init_20 : decode cX47_init 20 = .ok (.ldc 23, 2) := dk_18 23 (dk_at dksX47_init_0 20 rfl rfl)
theorem dX47_init_22 : decode cX47_init 22 = .ok (.ldc 25, 2) := dk_18 25 (dk_at dksX47_init_0 22 rfl rfl)
theorem dX47_init_24 : decode cX47_init 24 = .ok (.invokevirtual 19, 3) := dk_182 0 19 (dk_at dksX47_init_1 0 rfl rfl)
theorem dX47_init_27 : decode cX47_init 27 = .ok (.aload_n 0, 1) := dk_42 (dk_at dksX47_init_1 3 rfl rfl)
theorem dX47_init_28 : decode cX47_init 28 = .ok (.ldc 27, 2) := dk_18 27 (dk_at dksX47_init_1 4 rfl rfl)
theorem dX47_init_30 : decode cX47_init 30 = .ok (.ldc 25, 2) := dk_18 25 (dk_at dksX47_init_1 6 rfl rfl)
theorem dX47_init_32 : decode cX47_init 32 = .ok (.invokevirtual 19, 3) := dk_182 0 19 (dk_at dksX47_init_1 8 rfl rfl)
theorem dX47_init_35 : decode cX47_init 35 = .ok (.aload_n 0, 1) := dk_42 (dk_at dksX47_init_1 11 rfl rfl)
theorem dX47_init_36 : decode cX47_init 36 = .ok (.ldc 29, 2) := dk_18 29 (dk_at dksX47_init_1 12 rfl rfl)
theorem dX47_init_38 : decode cX47_init 38 = .ok (.ldc 31, 2) := dk_18 31 (dk_at dksX47_init_1 14 rfl rfl)
theorem dX47_init_40 : decode cX47_init 40 = .ok (.invokevirtual 19, 3) := dk_182 0 19 (dk_at dksX47_init_1 16 rfl rfl)
theorem dX47_init_43 : decode cX47_init 43 = .ok (.aload_n 0, 1) := dk_42 (dk_at dksX47_init_1 19 rfl rfl)
theorem dX47_init_44 : decode cX47_init 44 = .ok (.ldc 33, 2) := dk_18 33 (dk_at dksX47_init_1 20 rfl rfl)
theorem dX47_init_46 : decode cX47_init 46 = .ok (.ldc 35, 2) := dk_18 35 (dk_at dksX47_init_1 22 rfl rfl)
theorem dX47_init_48 : decode cX47_init 48 = .ok (.invokevirtual 19, 3) := dk_182 0 19 (dk_at dksX47_init_2 0 rfl rfl)
theorem dX47_init_51 : decode cX47_init 51 = .ok (.aload_n 0, 1) := dk_42 (dk_at dksX47_init_2 3 rfl rfl)
theorem dX47_init_52 : decode cX47_init 52 = .ok (.ldc 37, 2) := dk_18 37 (dk_at dksX47_init_2 4 rfl rfl)
theorem dX47_init_54 : decode cX47_init 54 = .ok (.ldc 35, 2) := dk_18 35 (dk_at dksX47_init_2 6 rfl rfl)
theorem dX47_init_56 : decode cX47_init 56 = .ok (.invokevirtual 19, 3) := dk_182 0 19 (dk_at dksX47_init_2 8 rfl rfl)
theorem dX47_init_59 : decode cX47_init 59 = .ok (.aload_n 0, 1) := dk_42 (dk_at dksX47_init_2 11 rfl rfl)
theorem dX47_init_60 : decode cX47_init 60 = .ok (.ldc 39, 2) := dk_18 39 (dk_at dksX47_init_2 12 rfl rfl)
theorem dX47_init_62 : decode cX47_init 62 = .ok (.ldc 25, 2) := dk_18 25 (dk_at dksX47_init_2 14 rfl rfl)
theorem dX47_init_64 : decode cX47_init 64 = .ok (.invokevirtual 19, 3) := dk_182 0 19 (dk_at dksX47_init_2 16 rfl rfl)
theorem dX47_init_67 : decode cX47_init 67 = .ok (.aload_n 0, 1) := dk_42 (dk_at dksX47_init_2 19 rfl rfl)
theorem dX47_init_68 : decode cX47_init 68 = .ok (.ldc 41, 2) := dk_18 41 (dk_at dksX47_init_2 20 rfl rfl)
theorem dX47_init_70 : decode cX47_init 70 = .ok (.ldc 43, 2) := dk_18 43 (dk_at dksX47_init_2 22 rfl rfl)
theorem dX47_init_72 : decode cX47_init 72 = .ok (.invokevirtual 19, 3) := dk_182 0 19 (dk_at dksX47_init_3 0 rfl rfl)
theorem dX47_init_75 : decode cX47_init 75 = .ok (.aload_n 0, 1) := dk_42 (dk_at dksX47_init_3 3 rfl rfl)
theorem dX47_init_76 : decode cX47_init 76 = .ok (.ldc 45, 2) := dk_18 45 (dk_at dksX47_init_3 4 rfl rfl)
theorem dX47_init_78 : decode cX47_init 78 = .ok (.ldc 47, 2) := dk_18 47 (dk_at dksX47_init_3 6 rfl rfl)
theorem dX47_init_80 : decode cX47_init 80 = .ok (.invokevirtual 19, 3) := dk_182 0 19 (dk_at dksX47_init_3 8 rfl rfl)
theorem dX47_init_83 : decode cX47_init 83 = .ok (.aload_n 0, 1) := dk_42 (dk_at dksX47_init_3 11 rfl rfl)
theorem dX47_init_84 : decode cX47_init 84 = .ok (.ldc 49, 2) := dk_18 49 (dk_at dksX47_init_3 12 rfl rfl)
theorem dX47_init_86 : decode cX47_init 86 = .ok (.ldc 47, 2) := dk_18 47 (dk_at dksX47_init_3 14 rfl rfl)
theorem dX47_init_88 : decode cX47_init 88 = .ok (.invokevirtual 19, 3) := dk_182 0 19 (dk_at dksX47_init_3 16 rfl rfl)
theorem dX47_init_91 : decode cX47_init 91 = .ok (.aload_n 0, 1) := dk_42 (dk_at dksX47_init_3 19 rfl rfl)
theorem dX47_init_92 : decode cX47_init 92 = .ok (.ldc 51, 2) := dk_18 51 (dk_at dksX47_init_3 20 rfl rfl)
theorem dX47_init_94 : decode cX47_init 94 = .ok (.ldc 53, 2) := dk_18 53 (dk_at dksX47_init_3 22 rfl rfl)
theorem dX47_init_96 : decode cX47_init 96 = .ok (.invokevirtual 19, 3) := dk_182 0 19 (dk_at dksX47_init_4 0 rfl rfl)
theorem dX47_init_99 : decode cX47_init 99 = .ok (.aload_n 0, 1) := dk_42 (dk_at dksX47_init_4 3 rfl rfl)
theorem dX47_init_100 : decode cX47_init 100 = .ok (.ldc 55, 2) := dk_18 55 (dk_at dksX47_init_4 4 rfl rfl)
theorem dX47_init_102 : decode cX47_init 102 = .ok (.ldc 25, 2) := dk_18 25 (dk_at dksX47_init_4 6 rfl rfl)
theorem dX47_init_104 : decode cX47_init 104 = .ok (.invokevirtual 19, 3) := dk_182 0 19 (dk_at dksX47_init_4 8 rfl rfl)
theorem dX47_init_107 : decode cX47_init 107 = .ok (.aload_n 0, 1) := dk_42 (dk_at dksX47_init_4 11 rfl rfl)
theorem dX47_init_108 : decode cX47_init 108 = .ok (.ldc 57, 2) := dk_18 57 (dk_at dksX47_init_4 12 rfl rfl)
theorem dX47_init_110 : decode cX47_init 110 = .ok (.ldc 17, 2) := dk_18 17 (dk_at dksX47_init_4 14 rfl rfl)
theorem dX47_init_112 : decode cX47_init 112 = .ok (.invokevirtual 19, 3) := dk_182 0 19 (dk_at dksX47_init_4 16 rfl rfl)
theorem dX47_init_115 : decode cX47_init 115 = .ok (.aload_n 0, 1) := dk_42 (dk_at dksX47_init_4 19 rfl rfl)
theorem dX47_init_116 : decode cX47_init 116 = .ok (.ldc 59, 2) := dk_18 59 (dk_at dksX47_init_4 20 rfl rfl)
theorem dX47_init_118 : decode cX47_init 118 = .ok (.ldc 17, 2) := dk_18 17 (dk_at dksX47_init_4 22 rfl rfl)
theorem dX47_init_120 : decode cX47_init 120 = .ok (.invokevirtual 19, 3) := dk_182 0 19 (dk_at dksX47_init_5 0 rfl rfl)
theorem dX47_init_123 : decode cX47_init 123 = .ok (.aload_n 0, 1) := dk_42 (dk_at dksX47_init_5 3 rfl rfl)
theorem dX47_init_124 : decode cX47_init 124 = .ok (.ldc 61, 2) := dk_18 61 (dk_at dksX47_init_5 4 rfl rfl)
theorem dX47_init_126 : decode cX47_init 126 = .ok (.ldc 17, 2) := dk_18 17 (dk_at dksX47_init_5 6 rfl rfl)
theorem dX47_init_128 : decode cX47_init 128 = .ok (.invokevirtual 19, 3) := dk_182 0 19 (dk_at dksX47_init_5 8 rfl rfl)
theorem dX47_init_131 : decode cX47_init 131 = .ok (.aload_n 0, 1) := dk_42 (dk_at dksX47_init_5 11 rfl rfl)
theorem dX47_init_132 : decode cX47_init 132 = .ok (.ldc 63, 2) := dk_18 63 (dk_at dksX47_init_5 12 rfl rfl)
theorem dX47_init_134 : decode cX47_init 134 = .ok (.ldc 65, 2) := dk_18 65 (dk_at dksX47_init_5 14 rfl rfl)
theorem dX47_init_136 : decode cX47_init 136 = .ok (.invokevirtual 19, 3) := dk_182 0 19 (dk_at dksX47_init_5 16 rfl rfl)
theorem dX47_init_139 : decode cX47_init 139 = .ok (.aload_n 0, 1) := dk_42 (dk_at dksX47_init_5 19 rfl rfl)
theorem dX47_init_140 : decode cX47_init 140 = .ok (.ldc 67, 2) := dk_18 67 (dk_at dksX47_init_5 20 rfl rfl)
theorem dX47_init_142 : decode cX47_init 142 = .ok (.ldc 31, 2) := dk_18 31 (dk_at dksX47_init_5 22 rfl rfl)
theorem dX47_init_144 : decode cX47_init 144 = .ok (.invokevirtual 19, 3) := dk_182 0 19 (dk_at dksX47_init_6 0 rfl rfl)
theorem dX47_init_147 : decode cX47_init 147 = .ok (.aload_n 0, 1) := dk_42 (dk_at dksX47_init_6 3 rfl rfl)
theorem dX47_init_148 : decode cX47_init 148 = .ok (.ldc 69, 2) := dk_18 69 (dk_at dksX47_init_6 4 rfl rfl)
theorem dX47_init_150 : decode cX47_init 150 = .ok (.ldc 17, 2) := dk_18 17 (dk_at dksX47_init_6 6 rfl rfl)
theorem dX47_init_152 : decode cX47_init 152 = .ok (.invokevirtual 19, 3) := dk_182 0 19 (dk_at dksX47_init_6 8 rfl rfl)
theorem dX47_init_155 : decode cX47_init 155 = .ok (.aload_n 0, 1) := dk_42 (dk_at dksX47_init_6 11 rfl rfl)
theorem dX47_init_156 : decode cX47_init 156 = .ok (.ldc 71, 2) := dk_18 71 (dk_at dksX47_init_6 12 rfl rfl)
theorem dX47_init_158 : decode cX47_init 158 = .ok (.ldc 31, 2) := dk_18 31 (dk_at dksX47_init_6 14 rfl rfl)
theorem dX47_init_160 : decode cX47_init 160 = .ok (.invokevirtual 19, 3) := dk_182 0 19 (dk_at dksX47_init_6 16 rfl rfl)
theorem dX47_init_163 : decode cX47_init 163 = .ok (.aload_n 0, 1) := dk_42 (dk_at dksX47_init_6 19 rfl rfl)
theorem dX47_init_164 : decode cX47_init 164 = .ok (.ldc 73, 2) := dk_18 73 (dk_at dksX47_init_6 20 rfl rfl)
theorem dX47_init_166 : decode cX47_init 166 = .ok (.ldc 31, 2) := dk_18 31 (dk_at dksX47_init_6 22 rfl rfl)
theorem dX47_init_168 : decode cX47_init 168 = .ok (.invokevirtual 19, 3) := dk_182 0 19 (dk_at dksX47_init_7 0 rfl rfl)
theorem dX47_init_171 : decode cX47_init 171 = .ok (.aload_n 0, 1) := dk_42 (dk_at dksX47_init_7 3 rfl rfl)
theorem dX47_init_172 : decode cX47_init 172 = .ok (.ldc 75, 2) := dk_18 75 (dk_at dksX47_init_7 4 rfl rfl)
theorem dX47_init_174 : decode cX47_init 174 = .ok (.ldc 31, 2) := dk_18 31 (dk_at dksX47_init_7 6 rfl rfl)
theorem dX47_init_176 : decode cX47_init 176 = .ok (.invokevirtual 19, 3) := dk_182 0 19 (dk_at dksX47_init_7 8 rfl rfl)
theorem dX47_init_179 : decode cX47_init 179 = .ok (.aload_n 0, 1) := dk_42 (dk_at dksX47_init_7 11 rfl rfl)
theorem dX47_init_180 : decode cX47_init 180 = .ok (.ldc 77, 2) := dk_18 77 (dk_at dksX47_init_7 12 rfl rfl)
theorem dX47_init_182 : decode cX47_init 182 = .ok (.ldc 31, 2) := dk_18 31 (dk_at dksX47_init_7 14 rfl rfl)
theorem dX47_init_184 : decode cX47_init 184 = .ok (.invokevirtual 19, 3) := dk_182 0 19 (dk_at dksX47_init_7 16 rfl rfl)
theorem dX47_init_187 : decode cX47_init 187 = .ok (.return_, 1) := dk_177 (dk_at dksX47_init_7 19 rfl rfl)
abbrev cX47_call : ByteArray := prog_16_method_2_code
def yX47_call : MethodName := ⟨RX47, "call", "(I[J)J"⟩
def dkwX47_call_14 : List UInt8 := [182, 0, 138, 173, 42, 180, 0, 9, 29, 182, 0, 140, 133, 173]
abbrev dktX47_call_14 : List UInt8 := dkwX47_call_14 ++ []
def dkwX47_call_13 : List UInt8 := [180, 0, 9, 29, 182, 0, 133, 173, 42, 180, 0, 9, 29, 182, 0, 136, 133, 173, 42, 180, 0, 9, 29]
abbrev dktX47_call_13 : List UInt8 := dkwX47_call_13 ++ dktX47_call_14
def dkwX47_call_12 : List UInt8 := [180, 0, 9, 29, 182, 0, 129, 133, 173, 42, 180, 0, 9, 29, 21, 4, 182, 0, 131, 184, 0, 84, 173, 42]
abbrev dktX47_call_12 : List UInt8 := dkwX47_call_12 ++ dktX47_call_13
def dkwX47_call_11 : List UInt8 := [173, 42, 180, 0, 9, 44, 3, 47, 44, 4, 47, 44, 5, 47, 182, 0, 126, 184, 0, 84, 173, 42]
abbrev dktX47_call_11 : List UInt8 := dkwX47_call_11 ++ dktX47_call_12
def dkwX47_call_10 : List UInt8 := [173, 42, 180, 0, 9, 29, 21, 4, 182, 0, 120, 133, 173, 42, 180, 0, 9, 29, 21, 4, 182, 0, 123, 133]
abbrev dktX47_call_10 : List UInt8 := dkwX47_call_10 ++ dktX47_call_11
def dkwX47_call_9 : List UInt8 := [182, 0, 112, 133, 173, 42, 180, 0, 9, 182, 0, 115, 133, 173, 42, 180, 0, 9, 29, 21, 4, 182, 0, 117]
abbrev dktX47_call_9 : List UInt8 := dkwX47_call_9 ++ dktX47_call_10
def dkwX47_call_8 : List UInt8 := [184, 0, 84, 173, 42, 180, 0, 9, 29, 44, 4, 47, 44, 5, 47, 136, 44, 6, 47, 136, 44, 7, 47]
abbrev dktX47_call_8 : List UInt8 := dkwX47_call_8 ++ dktX47_call_9
def dkwX47_call_7 : List UInt8 := [184, 0, 84, 173, 42, 180, 0, 9, 29, 21, 4, 4, 160, 0, 7, 4, 167, 0, 4, 3, 182, 0, 110]
abbrev dktX47_call_7 : List UInt8 := dkwX47_call_7 ++ dktX47_call_8
def dkwX47_call_6 : List UInt8 := [184, 0, 84, 173, 42, 180, 0, 9, 29, 21, 4, 4, 160, 0, 7, 4, 167, 0, 4, 3, 182, 0, 107]
abbrev dktX47_call_6 : List UInt8 := dkwX47_call_6 ++ dktX47_call_7
def dkwX47_call_5 : List UInt8 := [180, 0, 9, 182, 0, 102, 133, 173, 42, 180, 0, 9, 29, 21, 4, 44, 5, 47, 136, 182, 0, 104]
abbrev dktX47_call_5 : List UInt8 := dkwX47_call_5 ++ dktX47_call_6
def dkwX47_call_4 : List UInt8 := [4, 47, 182, 0, 96, 133, 173, 42, 180, 0, 9, 29, 44, 4, 47, 182, 0, 99, 184, 0, 84, 173, 42]
abbrev dktX47_call_4 : List UInt8 := dkwX47_call_4 ++ dktX47_call_5
def dkwX47_call_3 : List UInt8 := [180, 0, 9, 182, 0, 91, 133, 173, 42, 180, 0, 9, 29, 182, 0, 93, 133, 173, 42, 180, 0, 9, 29, 44]
abbrev dktX47_call_3 : List UInt8 := dkwX47_call_3 ++ dktX47_call_4
def dkwX47_call_2 : List UInt8 := [42, 180, 0, 9, 29, 21, 4, 182, 0, 79, 184, 0, 84, 173, 42, 180, 0, 9, 182, 0, 88, 133, 173, 42]
abbrev dktX47_call_2 : List UInt8 := dkwX47_call_2 ++ dktX47_call_3
def dkwX47_call_1 : List UInt8 := [170, 0, 0, 0, 0, 0, 1, 127, 0, 0, 0, 0, 0, 0, 0, 20, 0, 0, 0, 100, 0, 0, 0, 114, 0, 0, 0, 123, 0, 0, 0, 132, 0, 0, 0, 142, 0, 0, 0, 155, 0, 0, 0, 170, 0, 0, 0, 179, 0, 0, 0, 197, 0, 0, 0, 220, 0, 0, 0, 243, 0, 0, 1, 11, 0, 0, 1, 20, 0, 0, 1, 31, 0, 0, 1, 43, 0, 0, 1, 55, 0, 0, 1, 75, 0, 0, 1, 85, 0, 0, 1, 99, 0, 0, 1, 108, 0, 0, 1, 118]
abbrev dktX47_call_1 : List UInt8 := dkwX47_call_1 ++ dktX47_call_2
def dkwX47_call_0 : List UInt8 := [44, 3, 47, 136, 62, 44, 4, 47, 136, 54, 4, 27]
abbrev dktX47_call_0 : List UInt8 := dkwX47_call_0 ++ dktX47_call_1
theorem dksX47_call_0 : cX47_call.data.toList.drop 0 = dktX47_call_0 := by decide +kernel
theorem dksX47_call_1 : cX47_call.data.toList.drop 12 = dktX47_call_1 := dk_seg dksX47_call_0 12 rfl rfl
theorem dksX47_call_2 : cX47_call.data.toList.drop 112 = dktX47_call_2 := dk_seg dksX47_call_1 100 rfl rfl
theorem dksX47_call_3 : cX47_call.data.toList.drop 136 = dktX47_call_3 := dk_seg dksX47_call_2 24 rfl rfl
theorem dksX47_call_4 : cX47_call.data.toList.drop 160 = dktX47_call_4 := dk_seg dksX47_call_3 24 rfl rfl
theorem dksX47_call_5 : cX47_call.data.toList.drop 183 = dktX47_call_5 := dk_seg dksX47_call_4 23 rfl rfl
theorem dksX47_call_6 : cX47_call.data.toList.drop 205 = dktX47_call_6 := dk_seg dksX47_call_5 22 rfl rfl
theorem dksX47_call_7 : cX47_call.data.toList.drop 228 = dktX47_call_7 := dk_seg dksX47_call_6 23 rfl rfl
theorem dksX47_call_8 : cX47_call.data.toList.drop 251 = dktX47_call_8 := dk_seg dksX47_call_7 23 rfl rfl
theorem dksX47_call_9 : cX47_call.data.toList.drop 274 = dktX47_call_9 := dk_seg dksX47_call_8 23 rfl rfl
theorem dksX47_call_10 : cX47_call.data.toList.drop 298 = dktX47_call_10 := dk_seg dksX47_call_9 24 rfl rfl
theorem dksX47_call_11 : cX47_call.data.toList.drop 322 = dktX47_call_11 := dk_seg dksX47_call_10 24 rfl rfl
theorem dksX47_call_12 : cX47_call.data.toList.drop 344 = dktX47_call_12 := dk_seg dksX47_call_11 22 rfl rfl
theorem dksX47_call_13 : cX47_call.data.toList.drop 368 = dktX47_call_13 := dk_seg dksX47_call_12 24 rfl rfl
theorem dksX47_call_14 : cX47_call.data.toList.drop 391 = dktX47_call_14 := dk_seg dksX47_call_13 23 rfl rfl
theorem dX47_call_0 : decode cX47_call 0 = .ok (.aload_n 2, 1) := dk_44 (dk_at dksX47_call_0 0 rfl rfl)
theorem dX47_call_1 : decode cX47_call 1 = .ok (.iconst 0, 1) := dk_3 (dk_at dksX47_call_0 1 rfl rfl)
theorem dX47_call_2 : decode cX47_call 2 = .ok (.laload, 1) := dk_47 (dk_at dksX47_call_0 2 rfl rfl)
theorem dX47_call_3 : decode cX47_call 3 = .ok (.l2i, 1) := dk_136 (dk_at dksX47_call_0 3 rfl rfl)
theorem dX47_call_4 : decode cX47_call 4 = .ok (.istore_n 3, 1) := dk_62 (dk_at dksX47_call_0 4 rfl rfl)
theorem dX47_call_5 : decode cX47_call 5 = .ok (.aload_n 2, 1) := dk_44 (dk_at dksX47_call_0 5 rfl rfl)
theorem dX47_call_6 : decode cX47_call 6 = .ok (.iconst 1, 1) := dk_4 (dk_at dksX47_call_0 6 rfl rfl)
theorem dX47_call_7 : decode cX47_call 7 = .ok (.laload, 1) := dk_47 (dk_at dksX47_call_0 7 rfl rfl)
theorem dX47_call_8 : decode cX47_call 8 = .ok (.l2i, 1) := dk_136 (dk_at dksX47_call_0 8 rfl rfl)
theorem dX47_call_9 : decode cX47_call 9 = .ok (.istore 4, 2) := dk_54 4 (dk_at dksX47_call_0 9 rfl rfl)
theorem dX47_call_11 : decode cX47_call 11 = .ok (.iload_n 1, 1) := dk_27 (dk_at dksX47_call_0 11 rfl rfl)
theorem dX47_call_12 : decode cX47_call 12 = .ok (.tableswitch 383 0 20 #[100, 114, 123, 132, 142, 155, 170, 179, 197, 220, 243, 267, 276, 287, 299, 311, 331, 341, 355, 364, 374], 100) := by decide +kernel
theorem dX47_call_112 : decode cX47_call 112 = .ok (.aload_n 0, 1) := dk_42 (dk_at dksX47_call_2 0 rfl rfl)
theorem dX47_call_113 : decode cX47_call 113 = .ok (.getfield 9, 3) := dk_180 0 9 (dk_at dksX47_call_2 1 rfl rfl)
theorem dX47_call_116 : decode cX47_call 116 = .ok (.iload_n 3, 1) := dk_29 (dk_at dksX47_call_2 4 rfl rfl)
theorem dX47_call_117 : decode cX47_call 117 = .ok (.iload 4, 2) := dk_21 4 (dk_at dksX47_call_2 5 rfl rfl)
theorem dX47_call_119 : decode cX47_call 119 = .ok (.invokevirtual 79, 3) := dk_182 0 79 (dk_at dksX47_call_2 7 rfl rfl)
theorem dX47_call_122 : decode cX47_call 122 = .ok (.invokestatic 84, 3) := dk_184 0 84 (dk_at dksX47_call_2 10 rfl rfl)
theorem dX47_call_125 : decode cX47_call 125 = .ok (.lreturn, 1) := dk_173 (dk_at dksX47_call_2 13 rfl rfl)
theorem dX47_call_126 : decode cX47_call 126 = .ok (.aload_n 0, 1) := dk_42 (dk_at dksX47_call_2 14 rfl rfl)
theorem dX47_call_127 : decode cX47_call 127 = .ok (.getfield 9, 3) := dk_180 0 9 (dk_at dksX47_call_2 15 rfl rfl)
theorem dX47_call_130 : decode cX47_call 130 = .ok (.invokevirtual 88, 3) := dk_182 0 88 (dk_at dksX47_call_2 18 rfl rfl)
theorem dX47_call_133 : decode cX47_call 133 = .ok (.i2l, 1) := dk_133 (dk_at dksX47_call_2 21 rfl rfl)
theorem dX47_call_134 : decode cX47_call 134 = .ok (.lreturn, 1) := dk_173 (dk_at dksX47_call_2 22 rfl rfl)
theorem dX47_call_135 : decode cX47_call 135 = .ok (.aload_n 0, 1) := dk_42 (dk_at dksX47_call_2 23 rfl rfl)
theorem dX47_call_136 : decode cX47_call 136 = .ok (.getfield 9, 3) := dk_180 0 9 (dk_at dksX47_call_3 0 rfl rfl)
theorem dX47_call_139 : decode cX47_call 139 = .ok (.invokevirtual 91, 3) := dk_182 0 91 (dk_at dksX47_call_3 3 rfl rfl)
theorem dX47_call_142 : decode cX47_call 142 = .ok (.i2l, 1) := dk_133 (dk_at dksX47_call_3 6 rfl rfl)
theorem dX47_call_143 : decode cX47_call 143 = .ok (.lreturn, 1) := dk_173 (dk_at dksX47_call_3 7 rfl rfl)
theorem dX47_call_144 : decode cX47_call 144 = .ok (.aload_n 0, 1) := dk_42 (dk_at dksX47_call_3 8 rfl rfl)
theorem dX47_call_145 : decode cX47_call 145 = .ok (.getfield 9, 3) := dk_180 0 9 (dk_at dksX47_call_3 9 rfl rfl)
theorem dX47_call_148 : decode cX47_call 148 = .ok (.iload_n 3, 1) := dk_29 (dk_at dksX47_call_3 12 rfl rfl)
theorem dX47_call_149 : decode cX47_call 149 = .ok (.invokevirtual 93, 3) := dk_182 0 93 (dk_at dksX47_call_3 13 rfl rfl)
theorem dX47_call_152 : decode cX47_call 152 = .ok (.i2l, 1) := dk_133 (dk_at dksX47_call_3 16 rfl rfl)
theorem dX47_call_153 : decode cX47_call 153 = .ok (.lreturn, 1) := dk_173 (dk_at dksX47_call_3 17 rfl rfl)
theorem dX47_call_154 : decode cX47_call 154 = .ok (.aload_n 0, 1) := dk_42 (dk_at dksX47_call_3 18 rfl rfl)
theorem dX47_call_155 : decode cX47_call 155 = .ok (.getfield 9, 3) := dk_180 0 9 (dk_at dksX47_call_3 19 rfl rfl)
theorem dX47_call_158 : decode cX47_call 158 = .ok (.iload_n 3, 1) := dk_29 (dk_at dksX47_call_3 22 rfl rfl)
theorem dX47_call_159 : decode cX47_call 159 = .ok (.aload_n 2, 1) := dk_44 (dk_at dksX47_call_3 23 rfl rfl)
theorem dX47_call_160 : decode cX47_call 160 = .ok (.iconst 1, 1) := dk_4 (dk_at dksX47_call_4 0 rfl rfl)
theorem dX47_call_161 : decode cX47_call 161 = .ok (.laload, 1) := dk_47 (dk_at dksX47_call_4 1 rfl rfl)
theorem dX47_call_162 : decode cX47_call 162 = .ok (.invokevirtual 96, 3) := dk_182 0 96 (dk_at dksX47_call_4 2 rfl rfl)
theorem dX47_call_165 : decode cX47_call 165 = .ok (.i2l, 1) := dk_133 (dk_at dksX47_call_4 5 rfl rfl)
theorem dX47_call_166 : decode cX47_call 166 = .ok (.lreturn, 1) := dk_173 (dk_at dksX47_call_4 6 rfl rfl)
theorem dX47_call_167 : decode cX47_call 167 = .ok (.aload_n 0, 1) := dk_42 (dk_at dksX47_call_4 7 rfl rfl)
theorem dX47_call_168 : decode cX47_call 168 = .ok (.getfield 9, 3) := dk_180 0 9 (dk_at dksX47_call_4 8 rfl rfl)
theorem dX47_call_171 : decode cX47_call 171 = .ok (.iload_n 3, 1) := dk_29 (dk_at dksX47_call_4 11 rfl rfl)
theorem dX47_call_172 : decode cX47_call 172 = .ok (.aload_n 2, 1) := dk_44 (dk_at dksX47_call_4 12 rfl rfl)
theorem dX47_call_173 : decode cX47_call 173 = .ok (.iconst 1, 1) := dk_4 (dk_at dksX47_call_4 13 rfl rfl)
theorem dX47_call_174 : decode cX47_call 174 = .ok (.laload, 1) := dk_47 (dk_at dksX47_call_4 14 rfl rfl)
theorem dX47_call_175 : decode cX47_call 175 = .ok (.invokevirtual 99, 3) := dk_182 0 99 (dk_at dksX47_call_4 15 rfl rfl)
theorem dX47_call_178 : decode cX47_call 178 = .ok (.invokestatic 84, 3) := dk_184 0 84 (dk_at dksX47_call_4 18 rfl rfl)
theorem dX47_call_181 : decode cX47_call 181 = .ok (.lreturn, 1) := dk_173 (dk_at dksX47_call_4 21 rfl rfl)
theorem dX47_call_182 : decode cX47_call 182 = .ok (.aload_n 0, 1) := dk_42 (dk_at dksX47_call_4 22 rfl rfl)
theorem dX47_call_183 : decode cX47_call 183 = .ok (.getfield 9, 3) := dk_180 0 9 (dk_at dksX47_call_5 0 rfl rfl)
theorem dX47_call_186 : decode cX47_call 186 = .ok (.invokevirtual 102, 3) := dk_182 0 102 (dk_at dksX47_call_5 3 rfl rfl)
theorem dX47_call_189 : decode cX47_call 189 = .ok (.i2l, 1) := dk_133 (dk_at dksX47_call_5 6 rfl rfl)
theorem dX47_call_190 : decode cX47_call 190 = .ok (.lreturn, 1) := dk_173 (dk_at dksX47_call_5 7 rfl rfl)
theorem dX47_call_191 : decode cX47_call 191 = .ok (.aload_n 0, 1) := dk_42 (dk_at dksX47_call_5 8 rfl rfl)
theorem dX47_call_192 : decode cX47_call 192 = .ok (.getfield 9, 3) := dk_180 0 9 (dk_at dksX47_call_5 9 rfl rfl)
theorem dX47_call_195 : decode cX47_call 195 = .ok (.iload_n 3, 1) := dk_29 (dk_at dksX47_call_5 12 rfl rfl)
theorem dX47_call_196 : decode cX47_call 196 = .ok (.iload 4, 2) := dk_21 4 (dk_at dksX47_call_5 13 rfl rfl)
theorem dX47_call_198 : decode cX47_call 198 = .ok (.aload_n 2, 1) := dk_44 (dk_at dksX47_call_5 15 rfl rfl)
theorem dX47_call_199 : decode cX47_call 199 = .ok (.iconst 2, 1) := dk_5 (dk_at dksX47_call_5 16 rfl rfl)
theorem dX47_call_200 : decode cX47_call 200 = .ok (.laload, 1) := dk_47 (dk_at dksX47_call_5 17 rfl rfl)
theorem dX47_call_201 : decode cX47_call 201 = .ok (.l2i, 1) := dk_136 (dk_at dksX47_call_5 18 rfl rfl)
theorem dX47_call_202 : decode cX47_call 202 = .ok (.invokevirtual 104, 3) := dk_182 0 104 (dk_at dksX47_call_5 19 rfl rfl)
theorem dX47_call_205 : decode cX47_call 205 = .ok (.invokestatic 84, 3) := dk_184 0 84 (dk_at dksX47_call_6 0 rfl rfl)
theorem dX47_call_208 : decode cX47_call 208 = .ok (.lreturn, 1) := dk_173 (dk_at dksX47_call_6 3 rfl rfl)
theorem dX47_call_209 : decode cX47_call 209 = .ok (.aload_n 0, 1) := dk_42 (dk_at dksX47_call_6 4 rfl rfl)
theorem dX47_call_210 : decode cX47_call 210 = .ok (.getfield 9, 3) := dk_180 0 9 (dk_at dksX47_call_6 5 rfl rfl)
theorem dX47_call_213 : decode cX47_call 213 = .ok (.iload_n 3, 1) := dk_29 (dk_at dksX47_call_6 8 rfl rfl)
theorem dX47_call_214 : decode cX47_call 214 = .ok (.iload 4, 2) := dk_21 4 (dk_at dksX47_call_6 9 rfl rfl)
theorem dX47_call_216 : decode cX47_call 216 = .ok (.iconst 1, 1) := dk_4 (dk_at dksX47_call_6 11 rfl rfl)
theorem dX47_call_217 : decode cX47_call 217 = .ok (.if_icmp .ne 7, 3) := dk_160 0 7 (dk_at dksX47_call_6 12 rfl rfl)
theorem dX47_call_220 : decode cX47_call 220 = .ok (.iconst 1, 1) := dk_4 (dk_at dksX47_call_6 15 rfl rfl)
theorem dX47_call_221 : decode cX47_call 221 = .ok (.goto 4, 3) := dk_167 0 4 (dk_at dksX47_call_6 16 rfl rfl)
theorem dX47_call_224 : decode cX47_call 224 = .ok (.iconst 0, 1) := dk_3 (dk_at dksX47_call_6 19 rfl rfl)
theorem dX47_call_225 : decode cX47_call 225 = .ok (.invokevirtual 107, 3) := dk_182 0 107 (dk_at dksX47_call_6 20 rfl rfl)
theorem dX47_call_228 : decode cX47_call 228 = .ok (.invokestatic 84, 3) := dk_184 0 84 (dk_at dksX47_call_7 0 rfl rfl)
theorem dX47_call_231 : decode cX47_call 231 = .ok (.lreturn, 1) := dk_173 (dk_at dksX47_call_7 3 rfl rfl)
theorem dX47_call_232 : decode cX47_call 232 = .ok (.aload_n 0, 1) := dk_42 (dk_at dksX47_call_7 4 rfl rfl)
theorem dX47_call_233 : decode cX47_call 233 = .ok (.getfield 9, 3) := dk_180 0 9 (dk_at dksX47_call_7 5 rfl rfl)
theorem dX47_call_236 : decode cX47_call 236 = .ok (.iload_n 3, 1) := dk_29 (dk_at dksX47_call_7 8 rfl rfl)
theorem dX47_call_237 : decode cX47_call 237 = .ok (.iload 4, 2) := dk_21 4 (dk_at dksX47_call_7 9 rfl rfl)
theorem dX47_call_239 : decode cX47_call 239 = .ok (.iconst 1, 1) := dk_4 (dk_at dksX47_call_7 11 rfl rfl)
theorem dX47_call_240 : decode cX47_call 240 = .ok (.if_icmp .ne 7, 3) := dk_160 0 7 (dk_at dksX47_call_7 12 rfl rfl)
theorem dX47_call_243 : decode cX47_call 243 = .ok (.iconst 1, 1) := dk_4 (dk_at dksX47_call_7 15 rfl rfl)
theorem dX47_call_244 : decode cX47_call 244 = .ok (.goto 4, 3) := dk_167 0 4 (dk_at dksX47_call_7 16 rfl rfl)
theorem dX47_call_247 : decode cX47_call 247 = .ok (.iconst 0, 1) := dk_3 (dk_at dksX47_call_7 19 rfl rfl)
theorem dX47_call_248 : decode cX47_call 248 = .ok (.invokevirtual 110, 3) := dk_182 0 110 (dk_at dksX47_call_7 20 rfl rfl)
theorem dX47_call_251 : decode cX47_call 251 = .ok (.invokestatic 84, 3) := dk_184 0 84 (dk_at dksX47_call_8 0 rfl rfl)
theorem dX47_call_254 : decode cX47_call 254 = .ok (.lreturn, 1) := dk_173 (dk_at dksX47_call_8 3 rfl rfl)
theorem dX47_call_255 : decode cX47_call 255 = .ok (.aload_n 0, 1) := dk_42 (dk_at dksX47_call_8 4 rfl rfl)
theorem dX47_call_256 : decode cX47_call 256 = .ok (.getfield 9, 3) := dk_180 0 9 (dk_at dksX47_call_8 5 rfl rfl)
theorem dX47_call_259 : decode cX47_call 259 = .ok (.iload_n 3, 1) := dk_29 (dk_at dksX47_call_8 8 rfl rfl)
theorem dX47_call_260 : decode cX47_call 260 = .ok (.aload_n 2, 1) := dk_44 (dk_at dksX47_call_8 9 rfl rfl)
theorem dX47_call_261 : decode cX47_call 261 = .ok (.iconst 1, 1) := dk_4 (dk_at dksX47_call_8 10 rfl rfl)
theorem dX47_call_262 : decode cX47_call 262 = .ok (.laload, 1) := dk_47 (dk_at dksX47_call_8 11 rfl rfl)
theorem dX47_call_263 : decode cX47_call 263 = .ok (.aload_n 2, 1) := dk_44 (dk_at dksX47_call_8 12 rfl rfl)
theorem dX47_call_264 : decode cX47_call 264 = .ok (.iconst 2, 1) := dk_5 (dk_at dksX47_call_8 13 rfl rfl)
theorem dX47_call_265 : decode cX47_call 265 = .ok (.laload, 1) := dk_47 (dk_at dksX47_call_8 14 rfl rfl)
theorem dX47_call_266 : decode cX47_call 266 = .ok (.l2i, 1) := dk_136 (dk_at dksX47_call_8 15 rfl rfl)
theorem dX47_call_267 : decode cX47_call 267 = .ok (.aload_n 2, 1) := dk_44 (dk_at dksX47_call_8 16 rfl rfl)
theorem dX47_call_268 : decode cX47_call 268 = .ok (.iconst 3, 1) := dk_6 (dk_at dksX47_call_8 17 rfl rfl)
theorem dX47_call_269 : decode cX47_call 269 = .ok (.laload, 1) := dk_47 (dk_at dksX47_call_8 18 rfl rfl)
theorem dX47_call_270 : decode cX47_call 270 = .ok (.l2i, 1) := dk_136 (dk_at dksX47_call_8 19 rfl rfl)
theorem dX47_call_271 : decode cX47_call 271 = .ok (.aload_n 2, 1) := dk_44 (dk_at dksX47_call_8 20 rfl rfl)
theorem dX47_call_272 : decode cX47_call 272 = .ok (.iconst 4, 1) := dk_7 (dk_at dksX47_call_8 21 rfl rfl)
theorem dX47_call_273 : decode cX47_call 273 = .ok (.laload, 1) := dk_47 (dk_at dksX47_call_8 22 rfl rfl)
theorem dX47_call_274 : decode cX47_call 274 = .ok (.invokevirtual 112, 3) := dk_182 0 112 (dk_at dksX47_call_9 0 rfl rfl)
theorem dX47_call_277 : decode cX47_call 277 = .ok (.i2l, 1) := dk_133 (dk_at dksX47_call_9 3 rfl rfl)
theorem dX47_call_278 : decode cX47_call 278 = .ok (.lreturn, 1) := dk_173 (dk_at dksX47_call_9 4 rfl rfl)
theorem dX47_call_279 : decode cX47_call 279 = .ok (.aload_n 0, 1) := dk_42 (dk_at dksX47_call_9 5 rfl rfl)
theorem dX47_call_280 : decode cX47_call 280 = .ok (.getfield 9, 3) := dk_180 0 9 (dk_at dksX47_call_9 6 rfl rfl)
theorem dX47_call_283 : decode cX47_call 283 = .ok (.invokevirtual 115, 3) := dk_182 0 115 (dk_at dksX47_call_9 9 rfl rfl)
theorem dX47_call_286 : decode cX47_call 286 = .ok (.i2l, 1) := dk_133 (dk_at dksX47_call_9 12 rfl rfl)
theorem dX47_call_287 : decode cX47_call 287 = .ok (.lreturn, 1) := dk_173 (dk_at dksX47_call_9 13 rfl rfl)
theorem dX47_call_288 : decode cX47_call 288 = .ok (.aload_n 0, 1) := dk_42 (dk_at dksX47_call_9 14 rfl rfl)
theorem dX47_call_289 : decode cX47_call 289 = .ok (.getfield 9, 3) := dk_180 0 9 (dk_at dksX47_call_9 15 rfl rfl)
theorem dX47_call_292 : decode cX47_call 292 = .ok (.iload_n 3, 1) := dk_29 (dk_at dksX47_call_9 18 rfl rfl)
theorem dX47_call_293 : decode cX47_call 293 = .ok (.iload 4, 2) := dk_21 4 (dk_at dksX47_call_9 19 rfl rfl)
theorem dX47_call_295 : decode cX47_call 295 = .ok (.invokevirtual 117, 3) := dk_182 0 117 (dk_at dksX47_call_9 21 rfl rfl)
theorem dX47_call_298 : decode cX47_call 298 = .ok (.lreturn, 1) := dk_173 (dk_at dksX47_call_10 0 rfl rfl)
theorem dX47_call_299 : decode cX47_call 299 = .ok (.aload_n 0, 1) := dk_42 (dk_at dksX47_call_10 1 rfl rfl)
theorem dX47_call_300 : decode cX47_call 300 = .ok (.getfield 9, 3) := dk_180 0 9 (dk_at dksX47_call_10 2 rfl rfl)
theorem dX47_call_303 : decode cX47_call 303 = .ok (.iload_n 3, 1) := dk_29 (dk_at dksX47_call_10 5 rfl rfl)
theorem dX47_call_304 : decode cX47_call 304 = .ok (.iload 4, 2) := dk_21 4 (dk_at dksX47_call_10 6 rfl rfl)
theorem dX47_call_306 : decode cX47_call 306 = .ok (.invokevirtual 120, 3) := dk_182 0 120 (dk_at dksX47_call_10 8 rfl rfl)
theorem dX47_call_309 : decode cX47_call 309 = .ok (.i2l, 1) := dk_133 (dk_at dksX47_call_10 11 rfl rfl)
theorem dX47_call_310 : decode cX47_call 310 = .ok (.lreturn, 1) := dk_173 (dk_at dksX47_call_10 12 rfl rfl)
theorem dX47_call_311 : decode cX47_call 311 = .ok (.aload_n 0, 1) := dk_42 (dk_at dksX47_call_10 13 rfl rfl)
theorem dX47_call_312 : decode cX47_call 312 = .ok (.getfield 9, 3) := dk_180 0 9 (dk_at dksX47_call_10 14 rfl rfl)
theorem dX47_call_315 : decode cX47_call 315 = .ok (.iload_n 3, 1) := dk_29 (dk_at dksX47_call_10 17 rfl rfl)
theorem dX47_call_316 : decode cX47_call 316 = .ok (.iload 4, 2) := dk_21 4 (dk_at dksX47_call_10 18 rfl rfl)
theorem dX47_call_318 : decode cX47_call 318 = .ok (.invokevirtual 123, 3) := dk_182 0 123 (dk_at dksX47_call_10 20 rfl rfl)
theorem dX47_call_321 : decode cX47_call 321 = .ok (.i2l, 1) := dk_133 (dk_at dksX47_call_10 23 rfl rfl)
theorem dX47_call_322 : decode cX47_call 322 = .ok (.lreturn, 1) := dk_173 (dk_at dksX47_call_11 0 rfl rfl)
theorem dX47_call_323 : decode cX47_call 323 = .ok (.aload_n 0, 1) := dk_42 (dk_at dksX47_call_11 1 rfl rfl)
theorem dX47_call_324 : decode cX47_call 324 = .ok (.getfield 9, 3) := dk_180 0 9 (dk_at dksX47_call_11 2 rfl rfl)
theorem dX47_call_327 : decode cX47_call 327 = .ok (.aload_n 2, 1) := dk_44 (dk_at dksX47_call_11 5 rfl rfl)
theorem dX47_call_328 : decode cX47_call 328 = .ok (.iconst 0, 1) := dk_3 (dk_at dksX47_call_11 6 rfl rfl)
theorem dX47_call_329 : decode cX47_call 329 = .ok (.laload, 1) := dk_47 (dk_at dksX47_call_11 7 rfl rfl)
theorem dX47_call_330 : decode cX47_call 330 = .ok (.aload_n 2, 1) := dk_44 (dk_at dksX47_call_11 8 rfl rfl)
theorem dX47_call_331 : decode cX47_call 331 = .ok (.iconst 1, 1) := dk_4 (dk_at dksX47_call_11 9 rfl rfl)
theorem dX47_call_332 : decode cX47_call 332 = .ok (.laload, 1) := dk_47 (dk_at dksX47_call_11 10 rfl rfl)
theorem dX47_call_333 : decode cX47_call 333 = .ok (.aload_n 2, 1) := dk_44 (dk_at dksX47_call_11 11 rfl rfl)
theorem dX47_call_334 : decode cX47_call 334 = .ok (.iconst 2, 1) := dk_5 (dk_at dksX47_call_11 12 rfl rfl)
theorem dX47_call_335 : decode cX47_call 335 = .ok (.laload, 1) := dk_47 (dk_at dksX47_call_11 13 rfl rfl)
theorem dX47_call_336 : decode cX47_call 336 = .ok (.invokevirtual 126, 3) := dk_182 0 126 (dk_at dksX47_call_11 14 rfl rfl)
theorem dX47_call_339 : decode cX47_call 339 = .ok (.invokestatic 84, 3) := dk_184 0 84 (dk_at dksX47_call_11 17 rfl rfl)
theorem dX47_call_342 : decode cX47_call 342 = .ok (.lreturn, 1) := dk_173 (dk_at dksX47_call_11 20 rfl rfl)
theorem dX47_call_343 : decode cX47_call 343 = .ok (.aload_n 0, 1) := dk_42 (dk_at dksX47_call_11 21 rfl rfl)
theorem dX47_call_344 : decode cX47_call 344 = .ok (.getfield 9, 3) := dk_180 0 9 (dk_at dksX47_call_12 0 rfl rfl)
theorem dX47_call_347 : decode cX47_call 347 = .ok (.iload_n 3, 1) := dk_29 (dk_at dksX47_call_12 3 rfl rfl)
theorem dX47_call_348 : decode cX47_call 348 = .ok (.invokevirtual 129, 3) := dk_182 0 129 (dk_at dksX47_call_12 4 rfl rfl)
theorem dX47_call_351 : decode cX47_call 351 = .ok (.i2l, 1) := dk_133 (dk_at dksX47_call_12 7 rfl rfl)
theorem dX47_call_352 : decode cX47_call 352 = .ok (.lreturn, 1) := dk_173 (dk_at dksX47_call_12 8 rfl rfl)
theorem dX47_call_353 : decode cX47_call 353 = .ok (.aload_n 0, 1) := dk_42 (dk_at dksX47_call_12 9 rfl rfl)
theorem dX47_call_354 : decode cX47_call 354 = .ok (.getfield 9, 3) := dk_180 0 9 (dk_at dksX47_call_12 10 rfl rfl)
theorem dX47_call_357 : decode cX47_call 357 = .ok (.iload_n 3, 1) := dk_29 (dk_at dksX47_call_12 13 rfl rfl)
theorem dX47_call_358 : decode cX47_call 358 = .ok (.iload 4, 2) := dk_21 4 (dk_at dksX47_call_12 14 rfl rfl)
theorem dX47_call_360 : decode cX47_call 360 = .ok (.invokevirtual 131, 3) := dk_182 0 131 (dk_at dksX47_call_12 16 rfl rfl)
theorem dX47_call_363 : decode cX47_call 363 = .ok (.invokestatic 84, 3) := dk_184 0 84 (dk_at dksX47_call_12 19 rfl rfl)
theorem dX47_call_366 : decode cX47_call 366 = .ok (.lreturn, 1) := dk_173 (dk_at dksX47_call_12 22 rfl rfl)
theorem dX47_call_367 : decode cX47_call 367 = .ok (.aload_n 0, 1) := dk_42 (dk_at dksX47_call_12 23 rfl rfl)
theorem dX47_call_368 : decode cX47_call 368 = .ok (.getfield 9, 3) := dk_180 0 9 (dk_at dksX47_call_13 0 rfl rfl)
theorem dX47_call_371 : decode cX47_call 371 = .ok (.iload_n 3, 1) := dk_29 (dk_at dksX47_call_13 3 rfl rfl)
theorem dX47_call_372 : decode cX47_call 372 = .ok (.invokevirtual 133, 3) := dk_182 0 133 (dk_at dksX47_call_13 4 rfl rfl)
theorem dX47_call_375 : decode cX47_call 375 = .ok (.lreturn, 1) := dk_173 (dk_at dksX47_call_13 7 rfl rfl)
theorem dX47_call_376 : decode cX47_call 376 = .ok (.aload_n 0, 1) := dk_42 (dk_at dksX47_call_13 8 rfl rfl)
theorem dX47_call_377 : decode cX47_call 377 = .ok (.getfield 9, 3) := dk_180 0 9 (dk_at dksX47_call_13 9 rfl rfl)
theorem dX47_call_380 : decode cX47_call 380 = .ok (.iload_n 3, 1) := dk_29 (dk_at dksX47_call_13 12 rfl rfl)
theorem dX47_call_381 : decode cX47_call 381 = .ok (.invokevirtual 136, 3) := dk_182 0 136 (dk_at dksX47_call_13 13 rfl rfl)
theorem dX47_call_384 : decode cX47_call 384 = .ok (.i2l, 1) := dk_133 (dk_at dksX47_call_13 16 rfl rfl)
theorem dX47_call_385 : decode cX47_call 385 = .ok (.lreturn, 1) := dk_173 (dk_at dksX47_call_13 17 rfl rfl)
theorem dX47_call_386 : decode cX47_call 386 = .ok (.aload_n 0, 1) := dk_42 (dk_at dksX47_call_13 18 rfl rfl)
theorem dX47_call_387 : decode cX47_call 387 = .ok (.getfield 9, 3) := dk_180 0 9 (dk_at dksX47_call_13 19 rfl rfl)
theorem dX47_call_390 : decode cX47_call 390 = .ok (.iload_n 3, 1) := dk_29 (dk_at dksX47_call_13 22 rfl rfl)
theorem dX47_call_391 : decode cX47_call 391 = .ok (.invokevirtual 138, 3) := dk_182 0 138 (dk_at dksX47_call_14 0 rfl rfl)
theorem dX47_call_394 : decode cX47_call 394 = .ok (.lreturn, 1) := dk_173 (dk_at dksX47_call_14 3 rfl rfl)
theorem dX47_call_395 : decode cX47_call 395 = .ok (.aload_n 0, 1) := dk_42 (dk_at dksX47_call_14 4 rfl rfl)
theorem dX47_call_396 : decode cX47_call 396 = .ok (.getfield 9, 3) := dk_180 0 9 (dk_at dksX47_call_14 5 rfl rfl)
theorem dX47_call_399 : decode cX47_call 399 = .ok (.iload_n 3, 1) := dk_29 (dk_at dksX47_call_14 8 rfl rfl)
theorem dX47_call_400 : decode cX47_call 400 = .ok (.invokevirtual 140, 3) := dk_182 0 140 (dk_at dksX47_call_14 9 rfl rfl)
theorem dX47_call_403 : decode cX47_call 403 = .ok (.i2l, 1) := dk_133 (dk_at dksX47_call_14 12 rfl rfl)
theorem dX47_call_404 : decode cX47_call 404 = .ok (.lreturn, 1) := dk_173 (dk_at dksX47_call_14 13 rfl rfl)
theorem q453 : (Jvm.Cond.initialized "WasteHouse$DepositRoom") ∈ lw_all := lw_g (lw_at lw_m1 61 rfl) rfl
theorem q1986 : (Jvm.Cond.selects "WasteHouse$DepositRoom" ({ cls := "java/lang/Object", name := "getClass", desc := "()Ljava/lang/Class;" } : Jvm.MethodName) ({ cls := "java/lang/Object", name := "getClass", desc := "()Ljava/lang/Class;" } : Jvm.MethodName)) ∈ lw_all := lw_g (lw_at lw_m7 154 rfl) rfl
theorem q2483 : (Jvm.Cond.instantiable "WasteHouse$DepositRoom" (4 : Nat)) ∈ lw_all := lw_g (lw_at lw_m9 171 rfl) rfl
theorem q2485 : (Jvm.Cond.instanceMethod ({ cls := "WasteHouse$DepositRoom", name := "<init>", desc := "(LWasteHouse$DepositCodes;)V" } : Jvm.MethodName)) ∈ lw_all := lw_g (lw_at lw_m9 173 rfl) rfl
theorem q2486 : (Jvm.Cond.code ({ cls := "WasteHouse$DepositRoom", name := "<init>", desc := "(LWasteHouse$DepositCodes;)V" } : Jvm.MethodName) prog_16_method_1_code (2 : Nat) (Option.none : Option Jvm.ClassFile.FieldType)) ∈ lw_all := lw_g (lw_at lw_m9 174 rfl) rfl
theorem q2487 : (Jvm.Cond.stringRef "WasteHouse$DepositRoom" (1 : Nat) "deposits") ∈ lw_tbl := lw_at lw_m9 175 rfl
theorem q2488 : (Jvm.Cond.methodLink "WasteHouse$DepositRoom" (3 : Nat) ({ cls := "WasteHouse$Room", name := "<init>", desc := "(Ljava/lang/String;)V" } : Jvm.MethodName)) ∈ lw_all := lw_g (lw_at lw_m9 176 rfl) rfl
theorem q2489 : (Jvm.Cond.stringRef "WasteHouse$DepositRoom" (15 : Nat) "width") ∈ lw_tbl := lw_at lw_m9 177 rfl
theorem q2490 : (Jvm.Cond.stringRef "WasteHouse$DepositRoom" (17 : Nat) "ii") ∈ lw_tbl := lw_at lw_m9 178 rfl
theorem q2491 : (Jvm.Cond.methodLink "WasteHouse$DepositRoom" (19 : Nat) ({ cls := "WasteHouse$DepositRoom", name := "add", desc := "(Ljava/lang/String;Ljava/lang/String;)V" } : Jvm.MethodName)) ∈ lw_all := lw_g (lw_at lw_m9 179 rfl) rfl
theorem q2492 : (Jvm.Cond.sameMethod "WasteHouse$DepositRoom" "WasteHouse$Room" "add" "(Ljava/lang/String;Ljava/lang/String;)V") ∈ lw_all := lw_g (lw_at lw_m9 180 rfl) rfl
theorem q2493 : (Jvm.Cond.selects "WasteHouse$DepositRoom" ({ cls := "WasteHouse$DepositRoom", name := "add", desc := "(Ljava/lang/String;Ljava/lang/String;)V" } : Jvm.MethodName) ({ cls := "WasteHouse$Room", name := "add", desc := "(Ljava/lang/String;Ljava/lang/String;)V" } : Jvm.MethodName)) ∈ lw_all := lw_g (lw_at lw_m9 181 rfl) rfl
theorem q2494 : (Jvm.Cond.stringRef "WasteHouse$DepositRoom" (23 : Nat) "read") ∈ lw_tbl := lw_at lw_m9 182 rfl
theorem q2495 : (Jvm.Cond.stringRef "WasteHouse$DepositRoom" (25 : Nat) "") ∈ lw_tbl := lw_at lw_m9 183 rfl
theorem q2496 : (Jvm.Cond.stringRef "WasteHouse$DepositRoom" (27 : Nat) "back") ∈ lw_tbl := lw_at lw_m9 184 rfl
theorem q2497 : (Jvm.Cond.stringRef "WasteHouse$DepositRoom" (29 : Nat) "digit") ∈ lw_tbl := lw_at lw_m9 185 rfl
theorem q2498 : (Jvm.Cond.stringRef "WasteHouse$DepositRoom" (31 : Nat) "i") ∈ lw_tbl := lw_at lw_m9 186 rfl
theorem q2499 : (Jvm.Cond.stringRef "WasteHouse$DepositRoom" (33 : Nat) "check") ∈ lw_tbl := lw_at lw_m9 187 rfl
theorem q2500 : (Jvm.Cond.stringRef "WasteHouse$DepositRoom" (35 : Nat) "il") ∈ lw_tbl := lw_at lw_m9 188 rfl
theorem q2501 : (Jvm.Cond.stringRef "WasteHouse$DepositRoom" (37 : Nat) "good") ∈ lw_tbl := lw_at lw_m9 189 rfl
theorem q2502 : (Jvm.Cond.stringRef "WasteHouse$DepositRoom" (39 : Nat) "machine") ∈ lw_tbl := lw_at lw_m9 190 rfl
theorem q2503 : (Jvm.Cond.stringRef "WasteHouse$DepositRoom" (41 : Nat) "shape") ∈ lw_tbl := lw_at lw_m9 191 rfl
theorem q2504 : (Jvm.Cond.stringRef "WasteHouse$DepositRoom" (43 : Nat) "iii") ∈ lw_tbl := lw_at lw_m9 192 rfl
theorem q2505 : (Jvm.Cond.stringRef "WasteHouse$DepositRoom" (45 : Nat) "full") ∈ lw_tbl := lw_at lw_m9 193 rfl
theorem q2506 : (Jvm.Cond.stringRef "WasteHouse$DepositRoom" (47 : Nat) "ib") ∈ lw_tbl := lw_at lw_m9 194 rfl
theorem q2507 : (Jvm.Cond.stringRef "WasteHouse$DepositRoom" (49 : Nat) "power") ∈ lw_tbl := lw_at lw_m9 195 rfl
theorem q2508 : (Jvm.Cond.stringRef "WasteHouse$DepositRoom" (51 : Nat) "give") ∈ lw_tbl := lw_at lw_m9 196 rfl
theorem q2509 : (Jvm.Cond.stringRef "WasteHouse$DepositRoom" (53 : Nat) "iliil") ∈ lw_tbl := lw_at lw_m9 197 rfl
theorem q2510 : (Jvm.Cond.stringRef "WasteHouse$DepositRoom" (55 : Nat) "reason") ∈ lw_tbl := lw_at lw_m9 198 rfl
theorem q2511 : (Jvm.Cond.stringRef "WasteHouse$DepositRoom" (57 : Nat) "count") ∈ lw_tbl := lw_at lw_m9 199 rfl
theorem q2512 : (Jvm.Cond.stringRef "WasteHouse$DepositRoom" (59 : Nat) "join") ∈ lw_tbl := lw_at lw_m9 200 rfl
theorem q2513 : (Jvm.Cond.stringRef "WasteHouse$DepositRoom" (61 : Nat) "double") ∈ lw_tbl := lw_at lw_m9 201 rfl
theorem q2514 : (Jvm.Cond.stringRef "WasteHouse$DepositRoom" (63 : Nat) "mark") ∈ lw_tbl := lw_at lw_m9 202 rfl
theorem q2515 : (Jvm.Cond.stringRef "WasteHouse$DepositRoom" (65 : Nat) "lll") ∈ lw_tbl := lw_at lw_m9 203 rfl
theorem q2516 : (Jvm.Cond.stringRef "WasteHouse$DepositRoom" (67 : Nat) "coupon") ∈ lw_tbl := lw_at lw_m9 204 rfl
theorem q2517 : (Jvm.Cond.stringRef "WasteHouse$DepositRoom" (69 : Nat) "redeem") ∈ lw_tbl := lw_at lw_m9 205 rfl
theorem q2518 : (Jvm.Cond.stringRef "WasteHouse$DepositRoom" (71 : Nat) "shop") ∈ lw_tbl := lw_at lw_m9 206 rfl
theorem q2519 : (Jvm.Cond.stringRef "WasteHouse$DepositRoom" (73 : Nat) "clear") ∈ lw_tbl := lw_at lw_m9 207 rfl
theorem q2520 : (Jvm.Cond.stringRef "WasteHouse$DepositRoom" (75 : Nat) "cleared") ∈ lw_tbl := lw_at lw_m9 208 rfl
theorem q2521 : (Jvm.Cond.stringRef "WasteHouse$DepositRoom" (77 : Nat) "fraud") ∈ lw_tbl := lw_at lw_m9 209 rfl
theorem q2522 : (Jvm.Cond.fieldLink "WasteHouse$DepositRoom" (9 : Nat) "WasteHouse$DepositRoom" "codes" "LWasteHouse$DepositCodes;") ∈ lw_all := lw_g (lw_at lw_m9 210 rfl) rfl
theorem q2523 : (Jvm.Cond.laysFinal "WasteHouse$DepositRoom" "WasteHouse$DepositRoom" "codes" "LWasteHouse$DepositCodes;") ∈ lw_all := lw_g (lw_at lw_m9 211 rfl) rfl
theorem q2524 : (Jvm.Cond.soleField "WasteHouse$DepositRoom" "codes") ∈ lw_all := lw_g (lw_at lw_m9 212 rfl) rfl
theorem q2525 : (Jvm.Cond.laysFinal "WasteHouse$DepositRoom" "WasteHouse$Room" "name" "Ljava/lang/String;") ∈ lw_all := lw_g (lw_at lw_m9 213 rfl) rfl
theorem q2526 : (Jvm.Cond.laysFinal "WasteHouse$DepositRoom" "WasteHouse$Room" "words" "Ljava/util/ArrayList;") ∈ lw_all := lw_g (lw_at lw_m9 214 rfl) rfl
theorem q2527 : (Jvm.Cond.laysFinal "WasteHouse$DepositRoom" "WasteHouse$Room" "needs" "Ljava/util/ArrayList;") ∈ lw_all := lw_g (lw_at lw_m9 215 rfl) rfl
theorem q2528 : (Jvm.Cond.superclass "WasteHouse$DepositRoom" "WasteHouse$Room") ∈ lw_all := lw_g (lw_at lw_m9 216 rfl) rfl
theorem q3058 : (Jvm.Cond.selects "WasteHouse$DepositRoom" ({ cls := "WasteHouse$Room", name := "find", desc := "(Ljava/lang/String;)I" } : Jvm.MethodName) ({ cls := "WasteHouse$Room", name := "find", desc := "(Ljava/lang/String;)I" } : Jvm.MethodName)) ∈ lw_all := lw_g (lw_at lw_m12 26 rfl) rfl
theorem q3094 : (Jvm.Cond.selects "WasteHouse$DepositRoom" ({ cls := "java/lang/Object", name := "equals", desc := "(Ljava/lang/Object;)Z" } : Jvm.MethodName) ({ cls := "java/lang/Object", name := "equals", desc := "(Ljava/lang/Object;)Z" } : Jvm.MethodName)) ∈ lw_all := lw_g (lw_at lw_m12 62 rfl) rfl
theorem q3172 : (Jvm.Cond.selects "WasteHouse$DepositRoom" ({ cls := "WasteHouse$Room", name := "need", desc := "(I)Ljava/lang/String;" } : Jvm.MethodName) ({ cls := "WasteHouse$Room", name := "need", desc := "(I)Ljava/lang/String;" } : Jvm.MethodName)) ∈ lw_all := lw_g (lw_at lw_m12 140 rfl) rfl
theorem q3452 : (Jvm.Cond.selects "WasteHouse$DepositRoom" ({ cls := "WasteHouse$Room", name := "call", desc := "(I[J)J" } : Jvm.MethodName) ({ cls := "WasteHouse$DepositRoom", name := "call", desc := "(I[J)J" } : Jvm.MethodName)) ∈ lw_all := lw_g (lw_at lw_m13 180 rfl) rfl
theorem q3453 : (Jvm.Cond.instanceMethod ({ cls := "WasteHouse$DepositRoom", name := "call", desc := "(I[J)J" } : Jvm.MethodName)) ∈ lw_all := lw_g (lw_at lw_m13 181 rfl) rfl
theorem q3454 : (Jvm.Cond.code ({ cls := "WasteHouse$DepositRoom", name := "call", desc := "(I[J)J" } : Jvm.MethodName) prog_16_method_2_code (5 : Nat) (Option.some Jvm.ClassFile.FieldType.long)) ∈ lw_all := lw_g (lw_at lw_m13 182 rfl) rfl
theorem q3455 : (Jvm.Cond.methodLink "WasteHouse$DepositRoom" (79 : Nat) ({ cls := "WasteHouse$DepositCodes", name := "width", desc := "(II)Z" } : Jvm.MethodName)) ∈ lw_all := lw_g (lw_at lw_m13 183 rfl) rfl
theorem q3463 : (Jvm.Cond.methodLink "WasteHouse$DepositRoom" (84 : Nat) ({ cls := "WasteHouse$DepositRoom", name := "bit", desc := "(Z)J" } : Jvm.MethodName)) ∈ lw_all := lw_g (lw_at lw_m13 191 rfl) rfl
theorem q3464 : (Jvm.Cond.sameMethod "WasteHouse$DepositRoom" "WasteHouse$Room" "bit" "(Z)J") ∈ lw_all := lw_g (lw_at lw_m13 192 rfl) rfl
theorem q3465 : (Jvm.Cond.methodLink "WasteHouse$DepositRoom" (88 : Nat) ({ cls := "WasteHouse$DepositCodes", name := "read", desc := "()I" } : Jvm.MethodName)) ∈ lw_all := lw_g (lw_at lw_m13 193 rfl) rfl
theorem q3493 : (Jvm.Cond.methodLink "WasteHouse$DepositRoom" (91 : Nat) ({ cls := "WasteHouse$DepositCodes", name := "back", desc := "()I" } : Jvm.MethodName)) ∈ lw_all := lw_g (lw_at lw_m13 221 rfl) rfl
theorem q3497 : (Jvm.Cond.methodLink "WasteHouse$DepositRoom" (93 : Nat) ({ cls := "WasteHouse$DepositCodes", name := "digit", desc := "(I)I" } : Jvm.MethodName)) ∈ lw_all := lw_g (lw_at lw_m13 225 rfl) rfl
theorem q3505 : (Jvm.Cond.methodLink "WasteHouse$DepositRoom" (96 : Nat) ({ cls := "WasteHouse$DepositCodes", name := "check", desc := "(IJ)I" } : Jvm.MethodName)) ∈ lw_all := lw_g (lw_at lw_m13 233 rfl) rfl
theorem q3517 : (Jvm.Cond.methodLink "WasteHouse$DepositRoom" (99 : Nat) ({ cls := "WasteHouse$DepositCodes", name := "good", desc := "(IJ)Z" } : Jvm.MethodName)) ∈ lw_all := lw_g (lw_at lw_m14 5 rfl) rfl
theorem q3525 : (Jvm.Cond.methodLink "WasteHouse$DepositRoom" (102 : Nat) ({ cls := "WasteHouse$DepositCodes", name := "machine", desc := "()I" } : Jvm.MethodName)) ∈ lw_all := lw_g (lw_at lw_m14 13 rfl) rfl
theorem q3609 : (Jvm.Cond.selects "WasteHouse$DepositRoom" ({ cls := "java/lang/Object", name := "hashCode", desc := "()I" } : Jvm.MethodName) ({ cls := "java/lang/Object", name := "hashCode", desc := "()I" } : Jvm.MethodName)) ∈ lw_all := lw_g (lw_at lw_m14 97 rfl) rfl
theorem q4149 : (Jvm.Cond.methodLink "WasteHouse$DepositRoom" (104 : Nat) ({ cls := "WasteHouse$DepositCodes", name := "shape", desc := "(III)Z" } : Jvm.MethodName)) ∈ lw_all := lw_g (lw_at lw_m16 157 rfl) rfl
theorem q4166 : (Jvm.Cond.methodLink "WasteHouse$DepositRoom" (107 : Nat) ({ cls := "WasteHouse$DepositCodes", name := "full", desc := "(IZ)Z" } : Jvm.MethodName)) ∈ lw_all := lw_g (lw_at lw_m16 174 rfl) rfl
theorem q4175 : (Jvm.Cond.methodLink "WasteHouse$DepositRoom" (110 : Nat) ({ cls := "WasteHouse$DepositCodes", name := "power", desc := "(IZ)Z" } : Jvm.MethodName)) ∈ lw_all := lw_g (lw_at lw_m16 183 rfl) rfl
theorem q4179 : (Jvm.Cond.methodLink "WasteHouse$DepositRoom" (112 : Nat) ({ cls := "WasteHouse$DepositCodes", name := "give", desc := "(IJIIJ)I" } : Jvm.MethodName)) ∈ lw_all := lw_g (lw_at lw_m16 187 rfl) rfl
theorem q4362 : (Jvm.Cond.methodLink "WasteHouse$DepositRoom" (115 : Nat) ({ cls := "WasteHouse$DepositCodes", name := "reason", desc := "()I" } : Jvm.MethodName)) ∈ lw_all := lw_g (lw_at lw_m17 130 rfl) rfl
theorem q4366 : (Jvm.Cond.methodLink "WasteHouse$DepositRoom" (117 : Nat) ({ cls := "WasteHouse$DepositCodes", name := "count", desc := "(II)J" } : Jvm.MethodName)) ∈ lw_all := lw_g (lw_at lw_m17 134 rfl) rfl
theorem q4371 : (Jvm.Cond.methodLink "WasteHouse$DepositRoom" (120 : Nat) ({ cls := "WasteHouse$DepositCodes", name := "join", desc := "(II)I" } : Jvm.MethodName)) ∈ lw_all := lw_g (lw_at lw_m17 139 rfl) rfl
theorem q4719 : (Jvm.Cond.methodLink "WasteHouse$DepositRoom" (123 : Nat) ({ cls := "WasteHouse$DepositCodes", name := "double2", desc := "(II)I" } : Jvm.MethodName)) ∈ lw_all := lw_g (lw_at lw_m19 7 rfl) rfl
theorem q4736 : (Jvm.Cond.methodLink "WasteHouse$DepositRoom" (126 : Nat) ({ cls := "WasteHouse$DepositCodes", name := "mark", desc := "(JJJ)Z" } : Jvm.MethodName)) ∈ lw_all := lw_g (lw_at lw_m19 24 rfl) rfl
theorem q4744 : (Jvm.Cond.methodLink "WasteHouse$DepositRoom" (129 : Nat) ({ cls := "WasteHouse$DepositCodes", name := "coupon", desc := "(I)I" } : Jvm.MethodName)) ∈ lw_all := lw_g (lw_at lw_m19 32 rfl) rfl
theorem q4748 : (Jvm.Cond.methodLink "WasteHouse$DepositRoom" (131 : Nat) ({ cls := "WasteHouse$DepositCodes", name := "redeem", desc := "(II)Z" } : Jvm.MethodName)) ∈ lw_all := lw_g (lw_at lw_m19 36 rfl) rfl
theorem q4753 : (Jvm.Cond.methodLink "WasteHouse$DepositRoom" (133 : Nat) ({ cls := "WasteHouse$DepositCodes", name := "shop", desc := "(I)J" } : Jvm.MethodName)) ∈ lw_all := lw_g (lw_at lw_m19 41 rfl) rfl
theorem q4757 : (Jvm.Cond.methodLink "WasteHouse$DepositRoom" (136 : Nat) ({ cls := "WasteHouse$DepositCodes", name := "clear", desc := "(I)I" } : Jvm.MethodName)) ∈ lw_all := lw_g (lw_at lw_m19 45 rfl) rfl
theorem q4762 : (Jvm.Cond.methodLink "WasteHouse$DepositRoom" (138 : Nat) ({ cls := "WasteHouse$DepositCodes", name := "cleared", desc := "(I)J" } : Jvm.MethodName)) ∈ lw_all := lw_g (lw_at lw_m19 50 rfl) rfl
theorem q4766 : (Jvm.Cond.methodLink "WasteHouse$DepositRoom" (140 : Nat) ({ cls := "WasteHouse$DepositCodes", name := "fraud", desc := "(I)I" } : Jvm.MethodName)) ∈ lw_all := lw_g (lw_at lw_m19 54 rfl) rfl
theorem q9609 : (Jvm.Cond.castable "WasteHouse$DepositRoom" "WasteHouse$Room") ∈ lw_tbl := lw_at lw_m39 97 rfl
theorem q9670 : (Jvm.Cond.castable "WasteHouse$DepositRoom" "java/lang/Object") ∈ lw_tbl := lw_at lw_m39 158 rfl
theorem in_X47 : ∀ w ∈ wsX470, w ∈ lw_all := lw_in wsX470 [2525, 2526, 2527, 2523] (by decide +kernel) (by decide +kernel)
