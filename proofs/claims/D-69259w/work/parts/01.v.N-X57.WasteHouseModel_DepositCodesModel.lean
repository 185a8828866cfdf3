/-! WasteHouseModel$DepositCodesModel -/
set_option maxRecDepth 100000
def RX57 : String := "WasteHouseModel$DepositCodesModel"
def TX57 : u_T := fun k => match k with
  | 0 => ("WasteHouseModel$DepositCodesModel", "widths", "[I", true)
  | 1 => ("WasteHouseModel$DepositCodesModel", "digits", "[I", true)
  | 2 => ("WasteHouseModel$DepositCodesModel", "digitCount", "I", false)
  | 3 => ("WasteHouseModel$DepositCodesModel", "fault", "I", false)
  | 4 => ("WasteHouseModel$DepositCodesModel", "machines", "I", false)
  | 5 => ("WasteHouseModel$DepositCodesModel", "sets", "[I", true)
  | 6 => ("WasteHouseModel$DepositCodesModel", "isFull", "[Z", true)
  | 7 => ("WasteHouseModel$DepositCodesModel", "isDark", "[Z", true)
  | 8 => ("WasteHouseModel$DepositCodesModel", "leasts", "[I", true)
  | 9 => ("WasteHouseModel$DepositCodesModel", "mosts", "[I", true)
  | 10 => ("WasteHouseModel$DepositCodesModel", "serials", "[J", true)
  | 11 => ("WasteHouseModel$DepositCodesModel", "payers", "[I", true)
  | 12 => ("WasteHouseModel$DepositCodesModel", "shapes", "[I", true)
  | 13 => ("WasteHouseModel$DepositCodesModel", "months", "[J", true)
  | 14 => ("WasteHouseModel$DepositCodesModel", "counts", "[Z", true)
  | 15 => ("WasteHouseModel$DepositCodesModel", "printed", "[Z", true)
  | 16 => ("WasteHouseModel$DepositCodesModel", "paid", "I", false)
  | 17 => ("WasteHouseModel$DepositCodesModel", "reason", "I", false)
  | 18 => ("WasteHouseModel$DepositCodesModel", "refused", "[J", true)
  | 19 => ("WasteHouseModel$DepositCodesModel", "often", "[I", true)
  | 20 => ("WasteHouseModel$DepositCodesModel", "refusedCount", "I", false)
  | 21 => ("WasteHouseModel$DepositCodesModel", "frauds", "[I", true)
  | 22 => ("WasteHouseModel$DepositCodesModel", "fraudCount", "I", false)
  | 23 => ("WasteHouseModel$DepositCodesModel", "doubles", "[J", true)
  | 24 => ("WasteHouseModel$DepositCodesModel", "doubleA", "[I", true)
  | 25 => ("WasteHouseModel$DepositCodesModel", "doubleB", "[I", true)
  | 26 => ("WasteHouseModel$DepositCodesModel", "doubleCount", "I", false)
  | 27 => ("WasteHouseModel$DepositCodesModel", "coupons", "[I", true)
  | 28 => ("WasteHouseModel$DepositCodesModel", "redeemed", "[Z", true)
  | 29 => ("WasteHouseModel$DepositCodesModel", "couponCount", "I", false)
  | 30 => ("WasteHouseModel$DepositCodesModel", "shops", "[J", true)
  | _ => ("WasteHouseModel$DepositCodesModel", "balances", "[J", true)
def tyX57 : Nat → FieldType := fun k => match k with
  | 0 => .array .int
  | 1 => .array .int
  | 2 => .int
  | 3 => .int
  | 4 => .int
  | 5 => .array .int
  | 6 => .array .boolean
  | 7 => .array .boolean
  | 8 => .array .int
  | 9 => .array .int
  | 10 => .array .long
  | 11 => .array .int
  | 12 => .array .int
  | 13 => .array .long
  | 14 => .array .boolean
  | 15 => .array .boolean
  | 16 => .int
  | 17 => .int
  | 18 => .array .long
  | 19 => .array .int
  | 20 => .int
  | 21 => .array .int
  | 22 => .int
  | 23 => .array .long
  | 24 => .array .int
  | 25 => .array .int
  | 26 => .int
  | 27 => .array .int
  | 28 => .array .boolean
  | 29 => .int
  | 30 => .array .long
  | _ => .array .long
abbrev wsX570 : List Cond := u_ws RX57 TX57 32
set_option maxRecDepth 100000 in
theorem nmX57 : ∀ a, a < 32 → ∀ b, b < 32 → a ≠ b → (TX57 a).2.1 ≠ (TX57 b).2.1 := by decide +kernel
set_option maxRecDepth 100000 in
theorem tyX57_ok : ∀ k, k < 32 → parseFieldDescriptor (TX57 k).2.2.1 = some (tyX57 k) := by decide +kernel
abbrev cX57_init : ByteArray := prog_59_method_1_code
def yX57_init : MethodName := ⟨RX57, "<init>", "()V"⟩
def dkwX57_init_9 : List UInt8 := [162, 0, 16, 42, 180, 0, 26, 27, 2, 79, 132, 1, 1, 167, 255, 240, 177]
abbrev dktX57_init_9 : List UInt8 := dkwX57_init_9 ++ []
def dkwX57_init_8 : List UInt8 := [181, 0, 72, 42, 16, 100, 188, 11, 181, 0, 75, 42, 6, 188, 11, 181, 0, 78, 3, 60, 27, 16, 8]
abbrev dktX57_init_8 : List UInt8 := dkwX57_init_8 ++ dktX57_init_9
def dkwX57_init_7 : List UInt8 := [17, 4, 76, 188, 10, 181, 0, 66, 42, 17, 4, 76, 188, 10, 181, 0, 69, 42, 17, 4, 76, 188, 4]
abbrev dktX57_init_7 : List UInt8 := dkwX57_init_7 ++ dktX57_init_8
def dkwX57_init_6 : List UInt8 := [181, 0, 57, 42, 17, 4, 76, 188, 11, 181, 0, 60, 42, 17, 4, 76, 188, 10, 181, 0, 63, 42]
abbrev dktX57_init_6 : List UInt8 := dkwX57_init_6 ++ dktX57_init_7
def dkwX57_init_5 : List UInt8 := [17, 4, 76, 188, 11, 181, 0, 51, 42, 17, 4, 76, 188, 10, 181, 0, 54, 42, 17, 4, 76, 188, 10]
abbrev dktX57_init_5 : List UInt8 := dkwX57_init_5 ++ dktX57_init_6
def dkwX57_init_4 : List UInt8 := [181, 0, 42, 42, 17, 0, 200, 188, 4, 181, 0, 45, 42, 17, 0, 200, 188, 4, 181, 0, 48, 42]
abbrev dktX57_init_4 : List UInt8 := dkwX57_init_4 ++ dktX57_init_5
def dkwX57_init_3 : List UInt8 := [17, 0, 200, 188, 10, 181, 0, 36, 42, 17, 0, 200, 188, 10, 181, 0, 39, 42, 17, 0, 200, 188, 11]
abbrev dktX57_init_3 : List UInt8 := dkwX57_init_3 ++ dktX57_init_4
def dkwX57_init_2 : List UInt8 := [188, 10, 181, 0, 26, 42, 16, 8, 188, 10, 181, 0, 29, 42, 17, 0, 200, 188, 11, 181, 0, 32, 42]
abbrev dktX57_init_2 : List UInt8 := dkwX57_init_2 ++ dktX57_init_3
def dkwX57_init_1 : List UInt8 := [188, 10, 181, 0, 16, 42, 16, 6, 188, 4, 181, 0, 19, 42, 16, 6, 188, 4, 181, 0, 23, 42, 16, 8]
abbrev dktX57_init_1 : List UInt8 := dkwX57_init_1 ++ dktX57_init_2
def dkwX57_init_0 : List UInt8 := [42, 183, 0, 1, 42, 16, 64, 188, 10, 181, 0, 7, 42, 16, 16, 188, 10, 181, 0, 13, 42, 16, 6]
abbrev dktX57_init_0 : List UInt8 := dkwX57_init_0 ++ dktX57_init_1
theorem dksX57_init_0 : cX57_init.data.toList.drop 0 = dktX57_init_0 := by decide +kernel
theorem dksX57_init_1 : cX57_init.data.toList.drop 23 = dktX57_init_1 := dk_seg dksX57_init_0 23 rfl rfl
theorem dksX57_init_2 : cX57_init.data.toList.drop 47 = dktX57_init_2 := dk_seg dksX57_init_1 24 rfl rfl
theorem dksX57_init_3 : cX57_init.data.toList.drop 70 = dktX57_init_3 := dk_seg dksX57_init_2 23 rfl rfl
theorem dksX57_init_4 : cX57_init.data.toList.drop 93 = dktX57_init_4 := dk_seg dksX57_init_3 23 rfl rfl
theorem dksX57_init_5 : cX57_init.data.toList.drop 115 = dktX57_init_5 := dk_seg dksX57_init_4 22 rfl rfl
theorem dksX57_init_6 : cX57_init.data.toList.drop 138 = dktX57_init_6 := dk_seg dksX57_init_5 23 rfl rfl
theorem dksX57_init_7 : cX57_init.data.toList.drop 160 = dktX57_init_7 := dk_seg dksX57_init_6 22 rfl rfl
theorem dksX57_init_8 : cX57_init.data.toList.drop 183 = dktX57_init_8 := dk_seg dksX57_init_7 23 rfl rfl
theorem dksX57_init_9 : cX57_init.data.toList.drop 206 = dktX57_init_9 := dk_seg dksX57_init_8 23 rfl rfl
theorem dX57_init_0 : decode cX57_init 0 = .ok (.aload_n 0, 1) := dk_42 (dk_at dksX57_init_0 0 rfl rfl)
theorem dX57_init_1 : decode cX57_init 1 = .ok (.invokespecial 1, 3) := dk_183 0 1 (dk_at dksX57_init_0 1 rfl rfl)
theorem dX57_init_4 : decode cX57_init 4 = .ok (.aload_n 0, 1) := dk_42 (dk_at dksX57_init_0 4 rfl rfl)
theorem dX57_init_5 : decode cX57_init 5 = .ok (.bipush 64, 2) := dk_16 64 (dk_at dksX57_init_0 5 rfl rfl)
theorem dX57_init_7 : decode cX57_init 7 = .ok (.newarray .int, 2) := dk_188_10 (dk_at dksX57_init_0 7 rfl rfl)
theorem dX57_init_9 : decode cX57_init 9 = .ok (.putfield 7, 3) := dk_181 0 7 (dk_at dksX57_init_0 9 rfl rfl)
theorem dX57_init_12 : decode cX57_init 12 = .ok (.aload_n 0, 1) := dk_42 (dk_at dksX57_init_0 12 rfl rfl)
theorem dX57_init_13 : decode cX57_init 13 = .ok (.bipush 16, 2) := dk_16 16 (dk_at dksX57_init_0 13 rfl rfl)
theorem dX57_init_15 : decode cX57_init 15 = .ok (.newarray .int, 2) := dk_188_10 (dk_at dksX57_init_0 15 rfl rfl)
theorem dX57_init_17 : decode cX57_init 17 = .ok (.putfield 13, 3) := dk_181 0 13 (dk_at dksX57_init_0 17 rfl rfl)
theorem dX57_init_20 : decode cX57_init 20 = .ok (.aload_n 0, 1) := dk_42 (dk_at dksX57_init_0 20 rfl rfl)
theorem dX57_init_21 : decode cX57_init 21 = .ok (.bipush 6, 2) := dk_16 6 (dk_at dksX57_init_0 21 rfl rfl)
theorem dX57_init_23 : decode cX57_init 23 = .ok (.newarray .int, 2) := dk_188_10 (dk_at dksX57_init_1 0 rfl rfl)
theorem dX57_init_25 : decode cX57_init 25 = .ok (.putfield 16, 3) := dk_181 0 16 (dk_at dksX57_init_1 2 rfl rfl)
theorem dX57_init_28 : decode cX57_init 28 = .ok (.aload_n 0, 1) := dk_42 (dk_at dksX57_init_1 5 rfl rfl)
theorem dX57_init_29 : decode cX57_init 29 = .ok (.bipush 6, 2) := dk_16 6 (dk_at dksX57_init_1 6 rfl rfl)
theorem dX57_init_31 : decode cX57_init 31 = .ok (.newarray .boolean, 2) := dk_188_4 (dk_at dksX57_init_1 8 rfl rfl)
theorem dX57_init_33 : decode cX57_init 33 = .ok (.putfield 19, 3) := dk_181 0 19 (dk_at dksX57_init_1 10 rfl rfl)
theorem dX57_init_36 : decode cX57_init 36 = .ok (.aload_n 0, 1) := dk_42 (dk_at dksX57_init_1 13 rfl rfl)
theorem dX57_init_37 : decode cX57_init 37 = .ok (.bipush 6, 2) := dk_16 6 (dk_at dksX57_init_1 14 rfl rfl)
theorem dX57_init_39 : decode cX57_init 39 = .ok (.newarray .boolean, 2) := dk_188_4 (dk_at dksX57_init_1 16 rfl rfl)
theorem dX57_init_41 : decode cX57_init 41 = .ok (.putfield 23, 3) := dk_181 0 23 (dk_at dksX57_init_1 18 rfl rfl)
theorem dX57_init_44 : decode cX57_init 44 = .ok (.aload_n 0, 1) := dk_42 (dk_at dksX57_init_1 21 rfl rfl)
theorem dX57_init_45 : decode cX57_init 45 = .ok (.bipush 8, 2) := dk_16 8 (dk_at dksX57_init_1 22 rfl rfl)
theorem dX57_init_47 : decode cX57_init 47 = .ok (.newarray .int, 2) := dk_188_10 (dk_at dksX57_init_2 0 rfl rfl)
theorem dX57_init_49 : decode cX57_init 49 = .ok (.putfield 26, 3) := dk_181 0 26 (dk_at dksX57_init_2 2 rfl rfl)
theorem dX57_init_52 : decode cX57_init 52 = .ok (.aload_n 0, 1) := dk_42 (dk_at dksX57_init_2 5 rfl rfl)
theorem dX57_init_53 : decode cX57_init 53 = .ok (.bipush 8, 2) := dk_16 8 (dk_at dksX57_init_2 6 rfl rfl)
theorem dX57_init_55 : decode cX57_init 55 = .ok (.newarray .int, 2) := dk_188_10 (dk_at dksX57_init_2 8 rfl rfl)
theorem dX57_init_57 : decode cX57_init 57 = .ok (.putfield 29, 3) := dk_181 0 29 (dk_at dksX57_init_2 10 rfl rfl)
theorem dX57_init_60 : decode cX57_init 60 = .ok (.aload_n 0, 1) := dk_42 (dk_at dksX57_init_2 13 rfl rfl)
theorem dX57_init_61 : decode cX57_init 61 = .ok (.sipush 200, 3) := dk_17 0 200 (dk_at dksX57_init_2 14 rfl rfl)
theorem dX57_init_64 : decode cX57_init 64 = .ok (.newarray .long, 2) := dk_188_11 (dk_at dksX57_init_2 17 rfl rfl)
theorem dX57_init_66 : decode cX57_init 66 = .ok (.putfield 32, 3) := dk_181 0 32 (dk_at dksX57_init_2 19 rfl rfl)
theorem dX57_init_69 : decode cX57_init 69 = .ok (.aload_n 0, 1) := dk_42 (dk_at dksX57_init_2 22 rfl rfl)
theorem dX57_init_70 : decode cX57_init 70 = .ok (.sipush 200, 3) := dk_17 0 200 (dk_at dksX57_init_3 0 rfl rfl)
theorem dX57_init_73 : decode cX57_init 73 = .ok (.newarray .int, 2) := dk_188_10 (dk_at dksX57_init_3 3 rfl rfl)
theorem dX57_init_75 : decode cX57_init 75 = .ok (.putfield 36, 3) := dk_181 0 36 (dk_at dksX57_init_3 5 rfl rfl)
theorem dX57_init_78 : decode cX57_init 78 = .ok (.aload_n 0, 1) := dk_42 (dk_at dksX57_init_3 8 rfl rfl)
theorem dX57_init_79 : decode cX57_init 79 = .ok (.sipush 200, 3) := dk_17 0 200 (dk_at dksX57_init_3 9 rfl rfl)
theorem dX57_init_82 : decode cX57_init 82 = .ok (.newarray .int, 2) := dk_188_10 (dk_at dksX57_init_3 12 rfl rfl)
theorem dX57_init_84 : decode cX57_init 84 = .ok (.putfield 39, 3) := dk_181 0 39 (dk_at dksX57_init_3 14 rfl rfl)
theorem dX57_init_87 : decode cX57_init 87 = .ok (.aload_n 0, 1) := dk_42 (dk_at dksX57_init_3 17 rfl rfl)
theorem dX57_init_88 : decode cX57_init 88 = .ok (.sipush 200, 3) := dk_17 0 200 (dk_at dksX57_init_3 18 rfl rfl)
theorem dX57_init_91 : decode cX57_init 91 = .ok (.newarray .long, 2) := dk_188_11 (dk_at dksX57_init_3 21 rfl rfl)
theorem dX57_init_93 : decode cX57_init 93 = .ok (.putfield 42, 3) := dk_181 0 42 (dk_at dksX57_init_4 0 rfl rfl)
theorem dX57_init_96 : decode cX57_init 96 = .ok (.aload_n 0, 1) := dk_42 (dk_at dksX57_init_4 3 rfl rfl)
theorem dX57_init_97 : decode cX57_init 97 = .ok (.sipush 200, 3) := dk_17 0 200 (dk_at dksX57_init_4 4 rfl rfl)
theorem dX57_init_100 : decode cX57_init 100 = .ok (.newarray .boolean, 2) := dk_188_4 (dk_at dksX57_init_4 7 rfl rfl)
theorem dX57_init_102 : decode cX57_init 102 = .ok (.putfield 45, 3) := dk_181 0 45 (dk_at dksX57_init_4 9 rfl rfl)
theorem dX57_init_105 : decode cX57_init 105 = .ok (.aload_n 0, 1) := dk_42 (dk_at dksX57_init_4 12 rfl rfl)
theorem dX57_init_106 : decode cX57_init 106 = .ok (.sipush 200, 3) := dk_17 0 200 (dk_at dksX57_init_4 13 rfl rfl)
theorem dX57_init_109 : decode cX57_init 109 = .ok (.newarray .boolean, 2) := dk_188_4 (dk_at dksX57_init_4 16 rfl rfl)
theorem dX57_init_111 : decode cX57_init 111 = .ok (.putfield 48, 3) := dk_181 0 48 (dk_at dksX57_init_4 18 rfl rfl)
theorem dX57_init_114 : decode cX57_init 114 = .ok (.aload_n 0, 1) := dk_42 (dk_at dksX57_init_4 21 rfl rfl)
theorem dX57_init_115 : decode cX57_init 115 = .ok (.sipush 1100, 3) := dk_17 4 76 (dk_at dksX57_init_5 0 rfl rfl)
theorem dX57_init_118 : decode cX57_init 118 = .ok (.newarray .long, 2) := dk_188_11 (dk_at dksX57_init_5 3 rfl rfl)
theorem dX57_init_120 : decode cX57_init 120 = .ok (.putfield 51, 3) := dk_181 0 51 (dk_at dksX57_init_5 5 rfl rfl)
theorem dX57_init_123 : decode cX57_init 123 = .ok (.aload_n 0, 1) := dk_42 (dk_at dksX57_init_5 8 rfl rfl)
theorem dX57_init_124 : decode cX57_init 124 = .ok (.sipush 1100, 3) := dk_17 4 76 (dk_at dksX57_init_5 9 rfl rfl)
theorem dX57_init_127 : decode cX57_init 127 = .ok (.newarray .int, 2) := dk_188_10 (dk_at dksX57_init_5 12 rfl rfl)
theorem dX57_init_129 : decode cX57_init 129 = .ok (.putfield 54, 3) := dk_181 0 54 (dk_at dksX57_init_5 14 rfl rfl)
theorem dX57_init_132 : decode cX57_init 132 = .ok (.aload_n 0, 1) := dk_42 (dk_at dksX57_init_5 17 rfl rfl)
theorem dX57_init_133 : decode cX57_init 133 = .ok (.sipush 1100, 3) := dk_17 4 76 (dk_at dksX57_init_5 18 rfl rfl)
theorem dX57_init_136 : decode cX57_init 136 = .ok (.newarray .int, 2) := dk_188_10 (dk_at dksX57_init_5 21 rfl rfl)
theorem dX57_init_138 : decode cX57_init 138 = .ok (.putfield 57, 3) := dk_181 0 57 (dk_at dksX57_init_6 0 rfl rfl)
theorem dX57_init_141 : decode cX57_init 141 = .ok (.aload_n 0, 1) := dk_42 (dk_at dksX57_init_6 3 rfl rfl)
theorem dX57_init_142 : decode cX57_init 142 = .ok (.sipush 1100, 3) := dk_17 4 76 (dk_at dksX57_init_6 4 rfl rfl)
theorem dX57_init_145 : decode cX57_init 145 = .ok (.newarray .long, 2) := dk_188_11 (dk_at dksX57_init_6 7 rfl rfl)
theorem dX57_init_147 : decode cX57_init 147 = .ok (.putfield 60, 3) := dk_181 0 60 (dk_at dksX57_init_6 9 rfl rfl)
theorem dX57_init_150 : decode cX57_init 150 = .ok (.aload_n 0, 1) := dk_42 (dk_at dksX57_init_6 12 rfl rfl)
theorem dX57_init_151 : decode cX57_init 151 = .ok (.sipush 1100, 3) := dk_17 4 76 (dk_at dksX57_init_6 13 rfl rfl)
theorem dX57_init_154 : decode cX57_init 154 = .ok (.newarray .int, 2) := dk_188_10 (dk_at dksX57_init_6 16 rfl rfl)
theorem dX57_init_156 : decode cX57_init 156 = .ok (.putfield 63, 3) := dk_181 0 63 (dk_at dksX57_init_6 18 rfl rfl)
theorem dX57_init_159 : decode cX57_init 159 = .ok (.aload_n 0, 1) := dk_42 (dk_at dksX57_init_6 21 rfl rfl)
theorem dX57_init_160 : decode cX57_init 160 = .ok (.sipush 1100, 3) := dk_17 4 76 (dk_at dksX57_init_7 0 rfl rfl)
theorem dX57_init_163 : decode cX57_init 163 = .ok (.newarray .int, 2) := dk_188_10 (dk_at dksX57_init_7 3 rfl rfl)
theorem dX57_init_165 : decode cX57_init 165 = .ok (.putfield 66, 3) := dk_181 0 66 (dk_at dksX57_init_7 5 rfl rfl)
theorem dX57_init_168 : decode cX57_init 168 = .ok (.aload_n 0, 1) := dk_42 (dk_at dksX57_init_7 8 rfl rfl)
theorem dX57_init_169 : decode cX57_init 169 = .ok (.sipush 1100, 3) := dk_17 4 76 (dk_at dksX57_init_7 9 rfl rfl)
theorem dX57_init_172 : decode cX57_init 172 = .ok (.newarray .int, 2) := dk_188_10 (dk_at dksX57_init_7 12 rfl rfl)
theorem dX57_init_174 : decode cX57_init 174 = .ok (.putfield 69, 3) := dk_181 0 69 (dk_at dksX57_init_7 14 rfl rfl)
theorem dX57_init_177 : decode cX57_init 177 = .ok (.aload_n 0, 1) := dk_42 (dk_at dksX57_init_7 17 rfl rfl)
theorem dX57_init_178 : decode cX57_init 178 = .ok (.sipush 1100, 3) := dk_17 4 76 (dk_at dksX57_init_7 18 rfl rfl)
theorem dX57_init_181 : decode cX57_init 181 = .ok (.newarray .boolean, 2) := dk_188_4 (dk_at dksX57_init_7 21 rfl rfl)
theorem dX57_init_183 : decode cX57_init 183 = .ok (.putfield 72, 3) := dk_181 0 72 (dk_at dksX57_init_8 0 rfl rfl)
theorem dX57_init_186 : decode cX57_init 186 = .ok (.aload_n 0, 1) := dk_42 (dk_at dksX57_init_8 3 rfl rfl)
theorem dX57_init_187 : decode cX57_init 187 = .ok (.bipush 100, 2) := dk_16 100 (dk_at dksX57_init_8 4 rfl rfl)
theorem dX57_init_189 : decode cX57_init 189 = .ok (.newarray .long, 2) := dk_188_11 (dk_at dksX57_init_8 6 rfl rfl)
theorem dX57_init_191 : decode cX57_init 191 = .ok (.putfield 75, 3) := dk_181 0 75 (dk_at dksX57_init_8 8 rfl rfl)
theorem dX57_init_194 : decode cX57_init 194 = .ok (.aload_n 0, 1) := dk_42 (dk_at dksX57_init_8 11 rfl rfl)
theorem dX57_init_195 : decode cX57_init 195 = .ok (.iconst 3, 1) := dk_6 (dk_at dksX57_init_8 12 rfl rfl)
theorem dX57_init_196 : decode cX57_init 196 = .ok (.newarray .long, 2) := dk_188_11 (dk_at dksX57_init_8 13 rfl rfl)
theorem dX57_init_198 : decode cX57_init 198 = .ok (.putfield 78, 3) := dk_181 0 78 (dk_at dksX57_init_8 15 rfl rfl)
theorem dX57_init_201 : decode cX57_init 201 = .ok (.iconst 0, 1) := dk_3 (dk_at dksX57_init_8 18 rfl rfl)
theorem dX57_init_202 : decode cX57_init 202 = .ok (.istore_n 1, 1) := dk_60 (dk_at dksX57_init_8 19 rfl rfl)
theorem dX57_init_203 : decode cX57_init 203 = .ok (.iload_n 1, 1) := dk_27 (dk_at dksX57_init_8 20 rfl rfl)
theorem dX57_init_204 : decode cX57_init 204 = .ok (.bipush 8, 2) := dk_16 8 (dk_at dksX57_init_8 21 rfl rfl)
theorem dX57_init_206 : decode cX57_init 206 = .ok (.if_icmp .ge 16, 3) := dk_162 0 16 (dk_at dksX57_init_9 0 rfl rfl)
theorem dX57_init_209 : decode cX57_init 209 = .ok (.aload_n 0, 1) := dk_42 (dk_at dksX57_init_9 3 rfl rfl)
theorem dX57_init_210 : decode cX57_init 210 = .ok (.getfield 26, 3) := dk_180 0 26 (dk_at dksX57_init_9 4 rfl rfl)
theorem dX57_init_213 : decode cX57_init 213 = .ok (.iload_n 1, 1) := dk_27 (dk_at dksX57_init_9 7 rfl rfl)
theorem dX57_init_214 : decode cX57_init 214 = .ok (.iconst (-1), 1) := dk_2 (dk_at dksX57_init_9 8 rfl rfl)
theorem dX57_init_215 : decode cX57_init 215 = .ok (.iastore, 1) := dk_79 (dk_at dksX57_init_9 9 rfl rfl)
theorem dX57_init_216 : decode cX57_init 216 = .ok (.iinc 1 1, 3) := dk_132 1 1 (dk_at dksX57_init_9 10 rfl rfl)
theorem dX57_init_219 : decode cX57_init 219 = .ok (.goto (-16), 3) := dk_167 255 240 (dk_at dksX57_init_9 13 rfl rfl)
theorem dX57_init_222 : decode cX57_init 222 = .ok (.return_, 1) := dk_177 (dk_at dksX57_init_9 16 rfl rfl)
abbrev cX57_give : ByteArray := prog_59_method_25_code
def yX57_give : MethodName := ⟨RX57, "give", "(IJIIJ)I"⟩
def dkwX57_give_6 : List UInt8 := [180, 0, 140, 3, 84, 42, 89, 180, 0, 140, 4, 96, 181, 0, 140, 4, 172]
abbrev dktX57_give_6 : List UInt8 := dkwX57_give_6 ++ []
def dkwX57_give_5 : List UInt8 := [22, 6, 20, 0, 166, 109, 80, 42, 180, 0, 45, 42, 180, 0, 140, 4, 84, 42, 180, 0, 48, 42]
abbrev dktX57_give_5 : List UInt8 := dkwX57_give_5 ++ dktX57_give_6
def dkwX57_give_4 : List UInt8 := [180, 0, 140, 27, 79, 42, 180, 0, 39, 42, 180, 0, 140, 21, 4, 79, 42, 180, 0, 42, 42, 180, 0, 140]
abbrev dktX57_give_4 : List UInt8 := dkwX57_give_4 ++ dktX57_give_5
def dkwX57_give_3 : List UInt8 := [180, 0, 159, 158, 0, 5, 3, 172, 42, 180, 0, 32, 42, 180, 0, 140, 32, 80, 42, 180, 0, 36, 42]
abbrev dktX57_give_3 : List UInt8 := dkwX57_give_3 ++ dktX57_give_4
def dkwX57_give_2 : List UInt8 := [182, 0, 155, 181, 0, 159, 42, 180, 0, 159, 16, 7, 160, 0, 9, 42, 27, 32, 182, 0, 162, 42]
abbrev dktX57_give_2 : List UInt8 := dkwX57_give_2 ++ dktX57_give_3
def dkwX57_give_1 : List UInt8 := [153, 0, 13, 42, 180, 0, 140, 17, 0, 200, 160, 0, 5, 2, 172, 42, 42, 27, 32, 21, 4, 21, 5]
abbrev dktX57_give_1 : List UInt8 := dkwX57_give_1 ++ dktX57_give_2
def dkwX57_give_0 : List UInt8 := [42, 3, 181, 0, 81, 32, 20, 0, 117, 184, 0, 87, 153, 0, 24, 22, 6, 20, 0, 153, 184, 0, 87]
abbrev dktX57_give_0 : List UInt8 := dkwX57_give_0 ++ dktX57_give_1
theorem dksX57_give_0 : cX57_give.data.toList.drop 0 = dktX57_give_0 := by decide +kernel
theorem dksX57_give_1 : cX57_give.data.toList.drop 23 = dktX57_give_1 := dk_seg dksX57_give_0 23 rfl rfl
theorem dksX57_give_2 : cX57_give.data.toList.drop 46 = dktX57_give_2 := dk_seg dksX57_give_1 23 rfl rfl
theorem dksX57_give_3 : cX57_give.data.toList.drop 68 = dktX57_give_3 := dk_seg dksX57_give_2 22 rfl rfl
theorem dksX57_give_4 : cX57_give.data.toList.drop 91 = dktX57_give_4 := dk_seg dksX57_give_3 23 rfl rfl
theorem dksX57_give_5 : cX57_give.data.toList.drop 115 = dktX57_give_5 := dk_seg dksX57_give_4 24 rfl rfl
theorem dksX57_give_6 : cX57_give.data.toList.drop 137 = dktX57_give_6 := dk_seg dksX57_give_5 22 rfl rfl
theorem dX57_give_0 : decode cX57_give 0 = .ok (.aload_n 0, 1) := dk_42 (dk_at dksX57_give_0 0 rfl rfl)
theorem dX57_give_1 : decode cX57_give 1 = .ok (.iconst 0, 1) := dk_3 (dk_at dksX57_give_0 1 rfl rfl)
theorem dX57_give_2 : decode cX57_give 2 = .ok (.putfield 81, 3) := dk_181 0 81 (dk_at dksX57_give_0 2 rfl rfl)
theorem dX57_give_5 : decode cX57_give 5 = .ok (.lload_n 2, 1) := dk_32 (dk_at dksX57_give_0 5 rfl rfl)
theorem dX57_give_6 : decode cX57_give 6 = .ok (.ldc2_w 117, 3) := dk_20 0 117 (dk_at dksX57_give_0 6 rfl rfl)
theorem dX57_give_9 : decode cX57_give 9 = .ok (.invokestatic 87, 3) := dk_184 0 87 (dk_at dksX57_give_0 9 rfl rfl)
theorem dX57_give_12 : decode cX57_give 12 = .ok (.ifCond .eq 24, 3) := dk_153 0 24 (dk_at dksX57_give_0 12 rfl rfl)
theorem dX57_give_15 : decode cX57_give 15 = .ok (.lload 6, 2) := dk_22 6 (dk_at dksX57_give_0 15 rfl rfl)
theorem dX57_give_17 : decode cX57_give 17 = .ok (.ldc2_w 153, 3) := dk_20 0 153 (dk_at dksX57_give_0 17 rfl rfl)
theorem dX57_give_20 : decode cX57_give 20 = .ok (.invokestatic 87, 3) := dk_184 0 87 (dk_at dksX57_give_0 20 rfl rfl)
theorem dX57_give_23 : decode cX57_give 23 = .ok (.ifCond .eq 13, 3) := dk_153 0 13 (dk_at dksX57_give_1 0 rfl rfl)
theorem dX57_give_26 : decode cX57_give 26 = .ok (.aload_n 0, 1) := dk_42 (dk_at dksX57_give_1 3 rfl rfl)
theorem dX57_give_27 : decode cX57_give 27 = .ok (.getfield 140, 3) := dk_180 0 140 (dk_at dksX57_give_1 4 rfl rfl)
theorem dX57_give_30 : decode cX57_give 30 = .ok (.sipush 200, 3) := dk_17 0 200 (dk_at dksX57_give_1 7 rfl rfl)
theorem dX57_give_33 : decode cX57_give 33 = .ok (.if_icmp .ne 5, 3) := dk_160 0 5 (dk_at dksX57_give_1 10 rfl rfl)
theorem dX57_give_36 : decode cX57_give 36 = .ok (.iconst (-1), 1) := dk_2 (dk_at dksX57_give_1 13 rfl rfl)
theorem dX57_give_37 : decode cX57_give 37 = .ok (.ireturn, 1) := dk_172 (dk_at dksX57_give_1 14 rfl rfl)
theorem dX57_give_38 : decode cX57_give 38 = .ok (.aload_n 0, 1) := dk_42 (dk_at dksX57_give_1 15 rfl rfl)
theorem dX57_give_39 : decode cX57_give 39 = .ok (.aload_n 0, 1) := dk_42 (dk_at dksX57_give_1 16 rfl rfl)
theorem dX57_give_40 : decode cX57_give 40 = .ok (.iload_n 1, 1) := dk_27 (dk_at dksX57_give_1 17 rfl rfl)
theorem dX57_give_41 : decode cX57_give 41 = .ok (.lload_n 2, 1) := dk_32 (dk_at dksX57_give_1 18 rfl rfl)
theorem dX57_give_42 : decode cX57_give 42 = .ok (.iload 4, 2) := dk_21 4 (dk_at dksX57_give_1 19 rfl rfl)
theorem dX57_give_44 : decode cX57_give 44 = .ok (.iload 5, 2) := dk_21 5 (dk_at dksX57_give_1 21 rfl rfl)
theorem dX57_give_46 : decode cX57_give 46 = .ok (.invokevirtual 155, 3) := dk_182 0 155 (dk_at dksX57_give_2 0 rfl rfl)
theorem dX57_give_49 : decode cX57_give 49 = .ok (.putfield 159, 3) := dk_181 0 159 (dk_at dksX57_give_2 3 rfl rfl)
theorem dX57_give_52 : decode cX57_give 52 = .ok (.aload_n 0, 1) := dk_42 (dk_at dksX57_give_2 6 rfl rfl)
theorem dX57_give_53 : decode cX57_give 53 = .ok (.getfield 159, 3) := dk_180 0 159 (dk_at dksX57_give_2 7 rfl rfl)
theorem dX57_give_56 : decode cX57_give 56 = .ok (.bipush 7, 2) := dk_16 7 (dk_at dksX57_give_2 10 rfl rfl)
theorem dX57_give_58 : decode cX57_give 58 = .ok (.if_icmp .ne 9, 3) := dk_160 0 9 (dk_at dksX57_give_2 12 rfl rfl)
theorem dX57_give_61 : decode cX57_give 61 = .ok (.aload_n 0, 1) := dk_42 (dk_at dksX57_give_2 15 rfl rfl)
theorem dX57_give_62 : decode cX57_give 62 = .ok (.iload_n 1, 1) := dk_27 (dk_at dksX57_give_2 16 rfl rfl)
theorem dX57_give_63 : decode cX57_give 63 = .ok (.lload_n 2, 1) := dk_32 (dk_at dksX57_give_2 17 rfl rfl)
theorem dX57_give_64 : decode cX57_give 64 = .ok (.invokevirtual 162, 3) := dk_182 0 162 (dk_at dksX57_give_2 18 rfl rfl)
theorem dX57_give_67 : decode cX57_give 67 = .ok (.aload_n 0, 1) := dk_42 (dk_at dksX57_give_2 21 rfl rfl)
theorem dX57_give_68 : decode cX57_give 68 = .ok (.getfield 159, 3) := dk_180 0 159 (dk_at dksX57_give_3 0 rfl rfl)
theorem dX57_give_71 : decode cX57_give 71 = .ok (.ifCond .le 5, 3) := dk_158 0 5 (dk_at dksX57_give_3 3 rfl rfl)
theorem dX57_give_74 : decode cX57_give 74 = .ok (.iconst 0, 1) := dk_3 (dk_at dksX57_give_3 6 rfl rfl)
theorem dX57_give_75 : decode cX57_give 75 = .ok (.ireturn, 1) := dk_172 (dk_at dksX57_give_3 7 rfl rfl)
theorem dX57_give_76 : decode cX57_give 76 = .ok (.aload_n 0, 1) := dk_42 (dk_at dksX57_give_3 8 rfl rfl)
theorem dX57_give_77 : decode cX57_give 77 = .ok (.getfield 32, 3) := dk_180 0 32 (dk_at dksX57_give_3 9 rfl rfl)
theorem dX57_give_80 : decode cX57_give 80 = .ok (.aload_n 0, 1) := dk_42 (dk_at dksX57_give_3 12 rfl rfl)
theorem dX57_give_81 : decode cX57_give 81 = .ok (.getfield 140, 3) := dk_180 0 140 (dk_at dksX57_give_3 13 rfl rfl)
theorem dX57_give_84 : decode cX57_give 84 = .ok (.lload_n 2, 1) := dk_32 (dk_at dksX57_give_3 16 rfl rfl)
theorem dX57_give_85 : decode cX57_give 85 = .ok (.lastore, 1) := dk_80 (dk_at dksX57_give_3 17 rfl rfl)
theorem dX57_give_86 : decode cX57_give 86 = .ok (.aload_n 0, 1) := dk_42 (dk_at dksX57_give_3 18 rfl rfl)
theorem dX57_give_87 : decode cX57_give 87 = .ok (.getfield 36, 3) := dk_180 0 36 (dk_at dksX57_give_3 19 rfl rfl)
theorem dX57_give_90 : decode cX57_give 90 = .ok (.aload_n 0, 1) := dk_42 (dk_at dksX57_give_3 22 rfl rfl)
theorem dX57_give_91 : decode cX57_give 91 = .ok (.getfield 140, 3) := dk_180 0 140 (dk_at dksX57_give_4 0 rfl rfl)
theorem dX57_give_94 : decode cX57_give 94 = .ok (.iload_n 1, 1) := dk_27 (dk_at dksX57_give_4 3 rfl rfl)
theorem dX57_give_95 : decode cX57_give 95 = .ok (.iastore, 1) := dk_79 (dk_at dksX57_give_4 4 rfl rfl)
theorem dX57_give_96 : decode cX57_give 96 = .ok (.aload_n 0, 1) := dk_42 (dk_at dksX57_give_4 5 rfl rfl)
theorem dX57_give_97 : decode cX57_give 97 = .ok (.getfield 39, 3) := dk_180 0 39 (dk_at dksX57_give_4 6 rfl rfl)
theorem dX57_give_100 : decode cX57_give 100 = .ok (.aload_n 0, 1) := dk_42 (dk_at dksX57_give_4 9 rfl rfl)
theorem dX57_give_101 : decode cX57_give 101 = .ok (.getfield 140, 3) := dk_180 0 140 (dk_at dksX57_give_4 10 rfl rfl)
theorem dX57_give_104 : decode cX57_give 104 = .ok (.iload 4, 2) := dk_21 4 (dk_at dksX57_give_4 13 rfl rfl)
theorem dX57_give_106 : decode cX57_give 106 = .ok (.iastore, 1) := dk_79 (dk_at dksX57_give_4 15 rfl rfl)
theorem dX57_give_107 : decode cX57_give 107 = .ok (.aload_n 0, 1) := dk_42 (dk_at dksX57_give_4 16 rfl rfl)
theorem dX57_give_108 : decode cX57_give 108 = .ok (.getfield 42, 3) := dk_180 0 42 (dk_at dksX57_give_4 17 rfl rfl)
theorem dX57_give_111 : decode cX57_give 111 = .ok (.aload_n 0, 1) := dk_42 (dk_at dksX57_give_4 20 rfl rfl)
theorem dX57_give_112 : decode cX57_give 112 = .ok (.getfield 140, 3) := dk_180 0 140 (dk_at dksX57_give_4 21 rfl rfl)
theorem dX57_give_115 : decode cX57_give 115 = .ok (.lload 6, 2) := dk_22 6 (dk_at dksX57_give_5 0 rfl rfl)
theorem dX57_give_117 : decode cX57_give 117 = .ok (.ldc2_w 166, 3) := dk_20 0 166 (dk_at dksX57_give_5 2 rfl rfl)
theorem dX57_give_120 : decode cX57_give 120 = .ok (.ldiv, 1) := dk_109 (dk_at dksX57_give_5 5 rfl rfl)
theorem dX57_give_121 : decode cX57_give 121 = .ok (.lastore, 1) := dk_80 (dk_at dksX57_give_5 6 rfl rfl)
theorem dX57_give_122 : decode cX57_give 122 = .ok (.aload_n 0, 1) := dk_42 (dk_at dksX57_give_5 7 rfl rfl)
theorem dX57_give_123 : decode cX57_give 123 = .ok (.getfield 45, 3) := dk_180 0 45 (dk_at dksX57_give_5 8 rfl rfl)
theorem dX57_give_126 : decode cX57_give 126 = .ok (.aload_n 0, 1) := dk_42 (dk_at dksX57_give_5 11 rfl rfl)
theorem dX57_give_127 : decode cX57_give 127 = .ok (.getfield 140, 3) := dk_180 0 140 (dk_at dksX57_give_5 12 rfl rfl)
theorem dX57_give_130 : decode cX57_give 130 = .ok (.iconst 1, 1) := dk_4 (dk_at dksX57_give_5 15 rfl rfl)
theorem dX57_give_131 : decode cX57_give 131 = .ok (.bastore, 1) := dk_84 (dk_at dksX57_give_5 16 rfl rfl)
theorem dX57_give_132 : decode cX57_give 132 = .ok (.aload_n 0, 1) := dk_42 (dk_at dksX57_give_5 17 rfl rfl)
theorem dX57_give_133 : decode cX57_give 133 = .ok (.getfield 48, 3) := dk_180 0 48 (dk_at dksX57_give_5 18 rfl rfl)
theorem dX57_give_136 : decode cX57_give 136 = .ok (.aload_n 0, 1) := dk_42 (dk_at dksX57_give_5 21 rfl rfl)
theorem dX57_give_137 : decode cX57_give 137 = .ok (.getfield 140, 3) := dk_180 0 140 (dk_at dksX57_give_6 0 rfl rfl)
theorem dX57_give_140 : decode cX57_give 140 = .ok (.iconst 0, 1) := dk_3 (dk_at dksX57_give_6 3 rfl rfl)
theorem dX57_give_141 : decode cX57_give 141 = .ok (.bastore, 1) := dk_84 (dk_at dksX57_give_6 4 rfl rfl)
theorem dX57_give_142 : decode cX57_give 142 = .ok (.aload_n 0, 1) := dk_42 (dk_at dksX57_give_6 5 rfl rfl)
theorem dX57_give_143 : decode cX57_give 143 = .ok (.dup, 1) := dk_89 (dk_at dksX57_give_6 6 rfl rfl)
theorem dX57_give_144 : decode cX57_give 144 = .ok (.getfield 140, 3) := dk_180 0 140 (dk_at dksX57_give_6 7 rfl rfl)
theorem dX57_give_147 : decode cX57_give 147 = .ok (.iconst 1, 1) := dk_4 (dk_at dksX57_give_6 10 rfl rfl)
theorem dX57_give_148 : decode cX57_give 148 = .ok (.iadd, 1) := dk_96 (dk_at dksX57_give_6 11 rfl rfl)
theorem dX57_give_149 : decode cX57_give 149 = .ok (.putfield 140, 3) := dk_181 0 140 (dk_at dksX57_give_6 12 rfl rfl)
theorem dX57_give_152 : decode cX57_give 152 = .ok (.iconst 1, 1) := dk_4 (dk_at dksX57_give_6 15 rfl rfl)
theorem dX57_give_153 : decode cX57_give 153 = .ok (.ireturn, 1) := dk_172 (dk_at dksX57_give_6 16 rfl rfl)
abbrev cX57_isIn : ByteArray := prog_59_method_3_code
def yX57_isIn : MethodName := ⟨RX57, "isIn", "(JJ)Z"⟩
def dkwX57_isIn_0 : List UInt8 := [30, 9, 148, 155, 0, 13, 30, 32, 148, 157, 0, 7, 4, 167, 0, 4, 3, 172]
abbrev dktX57_isIn_0 : List UInt8 := dkwX57_isIn_0 ++ []
theorem dksX57_isIn_0 : cX57_isIn.data.toList.drop 0 = dktX57_isIn_0 := by decide +kernel
theorem dX57_isIn_0 : decode cX57_isIn 0 = .ok (.lload_n 0, 1) := dk_30 (dk_at dksX57_isIn_0 0 rfl rfl)
theorem dX57_isIn_1 : decode cX57_isIn 1 = .ok (.lconst 0, 1) := dk_9 (dk_at dksX57_isIn_0 1 rfl rfl)
theorem dX57_isIn_2 : decode cX57_isIn 2 = .ok (.lcmp, 1) := dk_148 (dk_at dksX57_isIn_0 2 rfl rfl)
theorem dX57_isIn_3 : decode cX57_isIn 3 = .ok (.ifCond .lt 13, 3) := dk_155 0 13 (dk_at dksX57_isIn_0 3 rfl rfl)
theorem dX57_isIn_6 : decode cX57_isIn 6 = .ok (.lload_n 0, 1) := dk_30 (dk_at dksX57_isIn_0 6 rfl rfl)
theorem dX57_isIn_7 : decode cX57_isIn 7 = .ok (.lload_n 2, 1) := dk_32 (dk_at dksX57_isIn_0 7 rfl rfl)
theorem dX57_isIn_8 : decode cX57_isIn 8 = .ok (.lcmp, 1) := dk_148 (dk_at dksX57_isIn_0 8 rfl rfl)
theorem dX57_isIn_9 : decode cX57_isIn 9 = .ok (.ifCond .gt 7, 3) := dk_157 0 7 (dk_at dksX57_isIn_0 9 rfl rfl)
theorem dX57_isIn_12 : decode cX57_isIn 12 = .ok (.iconst 1, 1) := dk_4 (dk_at dksX57_isIn_0 12 rfl rfl)
theorem dX57_isIn_13 : decode cX57_isIn 13 = .ok (.goto 4, 3) := dk_167 0 4 (dk_at dksX57_isIn_0 13 rfl rfl)
theorem dX57_isIn_16 : decode cX57_isIn 16 = .ok (.iconst 0, 1) := dk_3 (dk_at dksX57_isIn_0 16 rfl rfl)
theorem dX57_isIn_17 : decode cX57_isIn 17 = .ok (.ireturn, 1) := dk_172 (dk_at dksX57_isIn_0 17 rfl rfl)
abbrev cX57_reasonFor : ByteArray := prog_59_method_23_code
def yX57_reasonFor : MethodName := ⟨RX57, "reasonFor", "(IJII)I"⟩
def dkwX57_reasonFor_5 : List UInt8 := [156, 0, 7, 3, 167, 0, 5, 16, 7, 172]
abbrev dktX57_reasonFor_5 : List UInt8 := dkwX57_reasonFor_5 ++ []
def dkwX57_reasonFor_4 : List UInt8 := [109, 184, 0, 119, 133, 148, 153, 0, 6, 16, 6, 172, 42, 32, 42, 180, 0, 16, 27, 46, 182, 0, 143]
abbrev dktX57_reasonFor_4 : List UInt8 := dkwX57_reasonFor_4 ++ dktX57_reasonFor_5
def dkwX57_reasonFor_3 : List UInt8 := [21, 5, 42, 180, 0, 29, 21, 4, 46, 164, 0, 5, 8, 172, 32, 20, 0, 115, 113, 3, 32, 20, 0, 115]
abbrev dktX57_reasonFor_3 : List UInt8 := dkwX57_reasonFor_3 ++ dktX57_reasonFor_4
def dkwX57_reasonFor_2 : List UInt8 := [180, 0, 26, 21, 4, 46, 2, 160, 0, 5, 7, 172, 21, 5, 42, 180, 0, 26, 21, 4, 46, 161, 0, 15]
abbrev dktX57_reasonFor_2 : List UInt8 := dkwX57_reasonFor_2 ++ dktX57_reasonFor_3
def dkwX57_reasonFor_1 : List UInt8 := [180, 0, 23, 27, 51, 153, 0, 5, 6, 172, 21, 4, 133, 20, 0, 125, 184, 0, 87, 153, 0, 14, 42]
abbrev dktX57_reasonFor_1 : List UInt8 := dkwX57_reasonFor_1 ++ dktX57_reasonFor_2
def dkwX57_reasonFor_0 : List UInt8 := [42, 27, 182, 0, 136, 154, 0, 5, 4, 172, 42, 180, 0, 19, 27, 51, 153, 0, 5, 5, 172, 42]
abbrev dktX57_reasonFor_0 : List UInt8 := dkwX57_reasonFor_0 ++ dktX57_reasonFor_1
theorem dksX57_reasonFor_0 : cX57_reasonFor.data.toList.drop 0 = dktX57_reasonFor_0 := by decide +kernel
theorem dksX57_reasonFor_1 : cX57_reasonFor.data.toList.drop 22 = dktX57_reasonFor_1 := dk_seg dksX57_reasonFor_0 22 rfl rfl
theorem dksX57_reasonFor_2 : cX57_reasonFor.data.toList.drop 45 = dktX57_reasonFor_2 := dk_seg dksX57_reasonFor_1 23 rfl rfl
theorem dksX57_reasonFor_3 : cX57_reasonFor.data.toList.drop 69 = dktX57_reasonFor_3 := dk_seg dksX57_reasonFor_2 24 rfl rfl
theorem dksX57_reasonFor_4 : cX57_reasonFor.data.toList.drop 93 = dktX57_reasonFor_4 := dk_seg dksX57_reasonFor_3 24 rfl rfl
theorem dksX57_reasonFor_5 : cX57_reasonFor.data.toList.drop 116 = dktX57_reasonFor_5 := dk_seg dksX57_reasonFor_4 23 rfl rfl
theorem dX57_reasonFor_0 : decode cX57_reasonFor 0 = .ok (.aload_n 0, 1) := dk_42 (dk_at dksX57_reasonFor_0 0 rfl rfl)
theorem dX57_reasonFor_1 : decode cX57_reasonFor 1 = .ok (.iload_n 1, 1) := dk_27 (dk_at dksX57_reasonFor_0 1 rfl rfl)
theorem dX57_reasonFor_2 : decode cX57_reasonFor 2 = .ok (.invokevirtual 136, 3) := dk_182 0 136 (dk_at dksX57_reasonFor_0 2 rfl rfl)
theorem dX57_reasonFor_5 : decode cX57_reasonFor 5 = .ok (.ifCond .ne 5, 3) := dk_154 0 5 (dk_at dksX57_reasonFor_0 5 rfl rfl)
theorem dX57_reasonFor_8 : decode cX57_reasonFor 8 = .ok (.iconst 1, 1) := dk_4 (dk_at dksX57_reasonFor_0 8 rfl rfl)
theorem dX57_reasonFor_9 : decode cX57_reasonFor 9 = .ok (.ireturn, 1) := dk_172 (dk_at dksX57_reasonFor_0 9 rfl rfl)
theorem dX57_reasonFor_10 : decode cX57_reasonFor 10 = .ok (.aload_n 0, 1) := dk_42 (dk_at dksX57_reasonFor_0 10 rfl rfl)
theorem dX57_reasonFor_11 : decode cX57_reasonFor 11 = .ok (.getfield 19, 3) := dk_180 0 19 (dk_at dksX57_reasonFor_0 11 rfl rfl)
theorem dX57_reasonFor_14 : decode cX57_reasonFor 14 = .ok (.iload_n 1, 1) := dk_27 (dk_at dksX57_reasonFor_0 14 rfl rfl)
theorem dX57_reasonFor_15 : decode cX57_reasonFor 15 = .ok (.baload, 1) := dk_51 (dk_at dksX57_reasonFor_0 15 rfl rfl)
theorem dX57_reasonFor_16 : decode cX57_reasonFor 16 = .ok (.ifCond .eq 5, 3) := dk_153 0 5 (dk_at dksX57_reasonFor_0 16 rfl rfl)
theorem dX57_reasonFor_19 : decode cX57_reasonFor 19 = .ok (.iconst 2, 1) := dk_5 (dk_at dksX57_reasonFor_0 19 rfl rfl)
theorem dX57_reasonFor_20 : decode cX57_reasonFor 20 = .ok (.ireturn, 1) := dk_172 (dk_at dksX57_reasonFor_0 20 rfl rfl)
theorem dX57_reasonFor_21 : decode cX57_reasonFor 21 = .ok (.aload_n 0, 1) := dk_42 (dk_at dksX57_reasonFor_0 21 rfl rfl)
theorem dX57_reasonFor_22 : decode cX57_reasonFor 22 = .ok (.getfield 23, 3) := dk_180 0 23 (dk_at dksX57_reasonFor_1 0 rfl rfl)
theorem dX57_reasonFor_25 : decode cX57_reasonFor 25 = .ok (.iload_n 1, 1) := dk_27 (dk_at dksX57_reasonFor_1 3 rfl rfl)
theorem dX57_reasonFor_26 : decode cX57_reasonFor 26 = .ok (.baload, 1) := dk_51 (dk_at dksX57_reasonFor_1 4 rfl rfl)
theorem dX57_reasonFor_27 : decode cX57_reasonFor 27 = .ok (.ifCond .eq 5, 3) := dk_153 0 5 (dk_at dksX57_reasonFor_1 5 rfl rfl)
theorem dX57_reasonFor_30 : decode cX57_reasonFor 30 = .ok (.iconst 3, 1) := dk_6 (dk_at dksX57_reasonFor_1 8 rfl rfl)
theorem dX57_reasonFor_31 : decode cX57_reasonFor 31 = .ok (.ireturn, 1) := dk_172 (dk_at dksX57_reasonFor_1 9 rfl rfl)
theorem dX57_reasonFor_32 : decode cX57_reasonFor 32 = .ok (.iload 4, 2) := dk_21 4 (dk_at dksX57_reasonFor_1 10 rfl rfl)
theorem dX57_reasonFor_34 : decode cX57_reasonFor 34 = .ok (.i2l, 1) := dk_133 (dk_at dksX57_reasonFor_1 12 rfl rfl)
theorem dX57_reasonFor_35 : decode cX57_reasonFor 35 = .ok (.ldc2_w 125, 3) := dk_20 0 125 (dk_at dksX57_reasonFor_1 13 rfl rfl)
theorem dX57_reasonFor_38 : decode cX57_reasonFor 38 = .ok (.invokestatic 87, 3) := dk_184 0 87 (dk_at dksX57_reasonFor_1 16 rfl rfl)
theorem dX57_reasonFor_41 : decode cX57_reasonFor 41 = .ok (.ifCond .eq 14, 3) := dk_153 0 14 (dk_at dksX57_reasonFor_1 19 rfl rfl)
theorem dX57_reasonFor_44 : decode cX57_reasonFor 44 = .ok (.aload_n 0, 1) := dk_42 (dk_at dksX57_reasonFor_1 22 rfl rfl)
theorem dX57_reasonFor_45 : decode cX57_reasonFor 45 = .ok (.getfield 26, 3) := dk_180 0 26 (dk_at dksX57_reasonFor_2 0 rfl rfl)
theorem dX57_reasonFor_48 : decode cX57_reasonFor 48 = .ok (.iload 4, 2) := dk_21 4 (dk_at dksX57_reasonFor_2 3 rfl rfl)
theorem dX57_reasonFor_50 : decode cX57_reasonFor 50 = .ok (.iaload, 1) := dk_46 (dk_at dksX57_reasonFor_2 5 rfl rfl)
theorem dX57_reasonFor_51 : decode cX57_reasonFor 51 = .ok (.iconst (-1), 1) := dk_2 (dk_at dksX57_reasonFor_2 6 rfl rfl)
theorem dX57_reasonFor_52 : decode cX57_reasonFor 52 = .ok (.if_icmp .ne 5, 3) := dk_160 0 5 (dk_at dksX57_reasonFor_2 7 rfl rfl)
theorem dX57_reasonFor_55 : decode cX57_reasonFor 55 = .ok (.iconst 4, 1) := dk_7 (dk_at dksX57_reasonFor_2 10 rfl rfl)
theorem dX57_reasonFor_56 : decode cX57_reasonFor 56 = .ok (.ireturn, 1) := dk_172 (dk_at dksX57_reasonFor_2 11 rfl rfl)
theorem dX57_reasonFor_57 : decode cX57_reasonFor 57 = .ok (.iload 5, 2) := dk_21 5 (dk_at dksX57_reasonFor_2 12 rfl rfl)
theorem dX57_reasonFor_59 : decode cX57_reasonFor 59 = .ok (.aload_n 0, 1) := dk_42 (dk_at dksX57_reasonFor_2 14 rfl rfl)
theorem dX57_reasonFor_60 : decode cX57_reasonFor 60 = .ok (.getfield 26, 3) := dk_180 0 26 (dk_at dksX57_reasonFor_2 15 rfl rfl)
theorem dX57_reasonFor_63 : decode cX57_reasonFor 63 = .ok (.iload 4, 2) := dk_21 4 (dk_at dksX57_reasonFor_2 18 rfl rfl)
theorem dX57_reasonFor_65 : decode cX57_reasonFor 65 = .ok (.iaload, 1) := dk_46 (dk_at dksX57_reasonFor_2 20 rfl rfl)
theorem dX57_reasonFor_66 : decode cX57_reasonFor 66 = .ok (.if_icmp .lt 15, 3) := dk_161 0 15 (dk_at dksX57_reasonFor_2 21 rfl rfl)
theorem dX57_reasonFor_69 : decode cX57_reasonFor 69 = .ok (.iload 5, 2) := dk_21 5 (dk_at dksX57_reasonFor_3 0 rfl rfl)
theorem dX57_reasonFor_71 : decode cX57_reasonFor 71 = .ok (.aload_n 0, 1) := dk_42 (dk_at dksX57_reasonFor_3 2 rfl rfl)
theorem dX57_reasonFor_72 : decode cX57_reasonFor 72 = .ok (.getfield 29, 3) := dk_180 0 29 (dk_at dksX57_reasonFor_3 3 rfl rfl)
theorem dX57_reasonFor_75 : decode cX57_reasonFor 75 = .ok (.iload 4, 2) := dk_21 4 (dk_at dksX57_reasonFor_3 6 rfl rfl)
theorem dX57_reasonFor_77 : decode cX57_reasonFor 77 = .ok (.iaload, 1) := dk_46 (dk_at dksX57_reasonFor_3 8 rfl rfl)
theorem dX57_reasonFor_78 : decode cX57_reasonFor 78 = .ok (.if_icmp .le 5, 3) := dk_164 0 5 (dk_at dksX57_reasonFor_3 9 rfl rfl)
theorem dX57_reasonFor_81 : decode cX57_reasonFor 81 = .ok (.iconst 5, 1) := dk_8 (dk_at dksX57_reasonFor_3 12 rfl rfl)
theorem dX57_reasonFor_82 : decode cX57_reasonFor 82 = .ok (.ireturn, 1) := dk_172 (dk_at dksX57_reasonFor_3 13 rfl rfl)
theorem dX57_reasonFor_83 : decode cX57_reasonFor 83 = .ok (.lload_n 2, 1) := dk_32 (dk_at dksX57_reasonFor_3 14 rfl rfl)
theorem dX57_reasonFor_84 : decode cX57_reasonFor 84 = .ok (.ldc2_w 115, 3) := dk_20 0 115 (dk_at dksX57_reasonFor_3 15 rfl rfl)
theorem dX57_reasonFor_87 : decode cX57_reasonFor 87 = .ok (.lrem, 1) := dk_113 (dk_at dksX57_reasonFor_3 18 rfl rfl)
theorem dX57_reasonFor_88 : decode cX57_reasonFor 88 = .ok (.iconst 0, 1) := dk_3 (dk_at dksX57_reasonFor_3 19 rfl rfl)
theorem dX57_reasonFor_89 : decode cX57_reasonFor 89 = .ok (.lload_n 2, 1) := dk_32 (dk_at dksX57_reasonFor_3 20 rfl rfl)
theorem dX57_reasonFor_90 : decode cX57_reasonFor 90 = .ok (.ldc2_w 115, 3) := dk_20 0 115 (dk_at dksX57_reasonFor_3 21 rfl rfl)
theorem dX57_reasonFor_93 : decode cX57_reasonFor 93 = .ok (.ldiv, 1) := dk_109 (dk_at dksX57_reasonFor_4 0 rfl rfl)
theorem dX57_reasonFor_94 : decode cX57_reasonFor 94 = .ok (.invokestatic 119, 3) := dk_184 0 119 (dk_at dksX57_reasonFor_4 1 rfl rfl)
theorem dX57_reasonFor_97 : decode cX57_reasonFor 97 = .ok (.i2l, 1) := dk_133 (dk_at dksX57_reasonFor_4 4 rfl rfl)
theorem dX57_reasonFor_98 : decode cX57_reasonFor 98 = .ok (.lcmp, 1) := dk_148 (dk_at dksX57_reasonFor_4 5 rfl rfl)
theorem dX57_reasonFor_99 : decode cX57_reasonFor 99 = .ok (.ifCond .eq 6, 3) := dk_153 0 6 (dk_at dksX57_reasonFor_4 6 rfl rfl)
theorem dX57_reasonFor_102 : decode cX57_reasonFor 102 = .ok (.bipush 6, 2) := dk_16 6 (dk_at dksX57_reasonFor_4 9 rfl rfl)
theorem dX57_reasonFor_104 : decode cX57_reasonFor 104 = .ok (.ireturn, 1) := dk_172 (dk_at dksX57_reasonFor_4 11 rfl rfl)
theorem dX57_reasonFor_105 : decode cX57_reasonFor 105 = .ok (.aload_n 0, 1) := dk_42 (dk_at dksX57_reasonFor_4 12 rfl rfl)
theorem dX57_reasonFor_106 : decode cX57_reasonFor 106 = .ok (.lload_n 2, 1) := dk_32 (dk_at dksX57_reasonFor_4 13 rfl rfl)
theorem dX57_reasonFor_107 : decode cX57_reasonFor 107 = .ok (.aload_n 0, 1) := dk_42 (dk_at dksX57_reasonFor_4 14 rfl rfl)
theorem dX57_reasonFor_108 : decode cX57_reasonFor 108 = .ok (.getfield 16, 3) := dk_180 0 16 (dk_at dksX57_reasonFor_4 15 rfl rfl)
theorem dX57_reasonFor_111 : decode cX57_reasonFor 111 = .ok (.iload_n 1, 1) := dk_27 (dk_at dksX57_reasonFor_4 18 rfl rfl)
theorem dX57_reasonFor_112 : decode cX57_reasonFor 112 = .ok (.iaload, 1) := dk_46 (dk_at dksX57_reasonFor_4 19 rfl rfl)
theorem dX57_reasonFor_113 : decode cX57_reasonFor 113 = .ok (.invokevirtual 143, 3) := dk_182 0 143 (dk_at dksX57_reasonFor_4 20 rfl rfl)
theorem dX57_reasonFor_116 : decode cX57_reasonFor 116 = .ok (.ifCond .ge 7, 3) := dk_156 0 7 (dk_at dksX57_reasonFor_5 0 rfl rfl)
theorem dX57_reasonFor_119 : decode cX57_reasonFor 119 = .ok (.iconst 0, 1) := dk_3 (dk_at dksX57_reasonFor_5 3 rfl rfl)
theorem dX57_reasonFor_120 : decode cX57_reasonFor 120 = .ok (.goto 5, 3) := dk_167 0 5 (dk_at dksX57_reasonFor_5 4 rfl rfl)
theorem dX57_reasonFor_123 : decode cX57_reasonFor 123 = .ok (.bipush 7, 2) := dk_16 7 (dk_at dksX57_reasonFor_5 7 rfl rfl)
theorem dX57_reasonFor_125 : decode cX57_reasonFor 125 = .ok (.ireturn, 1) := dk_172 (dk_at dksX57_reasonFor_5 9 rfl rfl)
abbrev cX57_isMachine : ByteArray := prog_59_method_17_code
def yX57_isMachine : MethodName := ⟨RX57, "isMachine", "(I)Z"⟩
def dkwX57_isMachine_0 : List UInt8 := [42, 3, 181, 0, 81, 27, 155, 0, 15, 27, 42, 180, 0, 131, 162, 0, 7, 4, 167, 0, 4, 3, 172]
abbrev dktX57_isMachine_0 : List UInt8 := dkwX57_isMachine_0 ++ []
theorem dksX57_isMachine_0 : cX57_isMachine.data.toList.drop 0 = dktX57_isMachine_0 := by decide +kernel
theorem dX57_isMachine_0 : decode cX57_isMachine 0 = .ok (.aload_n 0, 1) := dk_42 (dk_at dksX57_isMachine_0 0 rfl rfl)
theorem dX57_isMachine_1 : decode cX57_isMachine 1 = .ok (.iconst 0, 1) := dk_3 (dk_at dksX57_isMachine_0 1 rfl rfl)
theorem dX57_isMachine_2 : decode cX57_isMachine 2 = .ok (.putfield 81, 3) := dk_181 0 81 (dk_at dksX57_isMachine_0 2 rfl rfl)
theorem dX57_isMachine_5 : decode cX57_isMachine 5 = .ok (.iload_n 1, 1) := dk_27 (dk_at dksX57_isMachine_0 5 rfl rfl)
theorem dX57_isMachine_6 : decode cX57_isMachine 6 = .ok (.ifCond .lt 15, 3) := dk_155 0 15 (dk_at dksX57_isMachine_0 6 rfl rfl)
theorem dX57_isMachine_9 : decode cX57_isMachine 9 = .ok (.iload_n 1, 1) := dk_27 (dk_at dksX57_isMachine_0 9 rfl rfl)
theorem dX57_isMachine_10 : decode cX57_isMachine 10 = .ok (.aload_n 0, 1) := dk_42 (dk_at dksX57_isMachine_0 10 rfl rfl)
theorem dX57_isMachine_11 : decode cX57_isMachine 11 = .ok (.getfield 131, 3) := dk_180 0 131 (dk_at dksX57_isMachine_0 11 rfl rfl)
theorem dX57_isMachine_14 : decode cX57_isMachine 14 = .ok (.if_icmp .ge 7, 3) := dk_162 0 7 (dk_at dksX57_isMachine_0 14 rfl rfl)
theorem dX57_isMachine_17 : decode cX57_isMachine 17 = .ok (.iconst 1, 1) := dk_4 (dk_at dksX57_isMachine_0 17 rfl rfl)
theorem dX57_isMachine_18 : decode cX57_isMachine 18 = .ok (.goto 4, 3) := dk_167 0 4 (dk_at dksX57_isMachine_0 18 rfl rfl)
theorem dX57_isMachine_21 : decode cX57_isMachine 21 = .ok (.iconst 0, 1) := dk_3 (dk_at dksX57_isMachine_0 21 rfl rfl)
theorem dX57_isMachine_22 : decode cX57_isMachine 22 = .ok (.ireturn, 1) := dk_172 (dk_at dksX57_isMachine_0 22 rfl rfl)
abbrev cX57_checkOf : ByteArray := prog_59_method_13_code
def yX57_checkOf : MethodName := ⟨RX57, "checkOf", "(IJ)I"⟩
def dkwX57_checkOf_4 : List UInt8 := [167, 255, 169, 16, 10, 29, 16, 10, 112, 100, 16, 10, 112, 172]
abbrev dktX57_checkOf_4 : List UInt8 := dkwX57_checkOf_4 ++ []
def dkwX57_checkOf_3 : List UInt8 := [21, 8, 96, 62, 21, 4, 154, 0, 7, 4, 167, 0, 4, 3, 54, 4, 22, 5, 20, 0, 115, 109, 55, 5]
abbrev dktX57_checkOf_3 : List UInt8 := dkwX57_checkOf_3 ++ dktX57_checkOf_4
def dkwX57_checkOf_2 : List UInt8 := [54, 8, 29, 21, 4, 154, 0, 8, 21, 7, 167, 0, 16, 26, 154, 0, 10, 6, 21, 7, 104, 167, 0, 5]
abbrev dktX57_checkOf_2 : List UInt8 := dkwX57_checkOf_2 ++ dktX57_checkOf_3
def dkwX57_checkOf_1 : List UInt8 := [5, 21, 7, 104, 16, 9, 164, 0, 13, 5, 21, 7, 104, 16, 9, 100, 167, 0, 7, 5, 21, 7, 104]
abbrev dktX57_checkOf_1 : List UInt8 := dkwX57_checkOf_1 ++ dktX57_checkOf_2
def dkwX57_checkOf_0 : List UInt8 := [3, 62, 4, 54, 4, 31, 55, 5, 22, 5, 9, 148, 158, 0, 86, 22, 5, 20, 0, 115, 113, 136, 54, 7]
abbrev dktX57_checkOf_0 : List UInt8 := dkwX57_checkOf_0 ++ dktX57_checkOf_1
theorem dksX57_checkOf_0 : cX57_checkOf.data.toList.drop 0 = dktX57_checkOf_0 := by decide +kernel
theorem dksX57_checkOf_1 : cX57_checkOf.data.toList.drop 24 = dktX57_checkOf_1 := dk_seg dksX57_checkOf_0 24 rfl rfl
theorem dksX57_checkOf_2 : cX57_checkOf.data.toList.drop 47 = dktX57_checkOf_2 := dk_seg dksX57_checkOf_1 23 rfl rfl
theorem dksX57_checkOf_3 : cX57_checkOf.data.toList.drop 71 = dktX57_checkOf_3 := dk_seg dksX57_checkOf_2 24 rfl rfl
theorem dksX57_checkOf_4 : cX57_checkOf.data.toList.drop 95 = dktX57_checkOf_4 := dk_seg dksX57_checkOf_3 24 rfl rfl
theorem dX57_checkOf_0 : decode cX57_checkOf 0 = .ok (.iconst 0, 1) := dk_3 (dk_at dksX57_checkOf_0 0 rfl rfl)
theorem dX57_checkOf_1 : decode cX57_checkOf 1 = .ok (.istore_n 3, 1) := dk_62 (dk_at dksX57_checkOf_0 1 rfl rfl)
theorem dX57_checkOf_2 : decode cX57_checkOf 2 = .ok (.iconst 1, 1) := dk_4 (dk_at dksX57_checkOf_0 2 rfl rfl)
theorem dX57_checkOf_3 : decode cX57_checkOf 3 = .ok (.istore 4, 2) := dk_54 4 (dk_at dksX57_checkOf_0 3 rfl rfl)
theorem dX57_checkOf_5 : decode cX57_checkOf 5 = .ok (.lload_n 1, 1) := dk_31 (dk_at dksX57_checkOf_0 5 rfl rfl)
theorem dX57_checkOf_6 : decode cX57_checkOf 6 = .ok (.lstore 5, 2) := dk_55 5 (dk_at dksX57_checkOf_0 6 rfl rfl)
theorem dX57_checkOf_8 : decode cX57_checkOf 8 = .ok (.lload 5, 2) := dk_22 5 (dk_at dksX57_checkOf_0 8 rfl rfl)
theorem dX57_checkOf_10 : decode cX57_checkOf 10 = .ok (.lconst 0, 1) := dk_9 (dk_at dksX57_checkOf_0 10 rfl rfl)
theorem dX57_checkOf_11 : decode cX57_checkOf 11 = .ok (.lcmp, 1) := dk_148 (dk_at dksX57_checkOf_0 11 rfl rfl)
theorem dX57_checkOf_12 : decode cX57_checkOf 12 = .ok (.ifCond .le 86, 3) := dk_158 0 86 (dk_at dksX57_checkOf_0 12 rfl rfl)
theorem dX57_checkOf_15 : decode cX57_checkOf 15 = .ok (.lload 5, 2) := dk_22 5 (dk_at dksX57_checkOf_0 15 rfl rfl)
theorem dX57_checkOf_17 : decode cX57_checkOf 17 = .ok (.ldc2_w 115, 3) := dk_20 0 115 (dk_at dksX57_checkOf_0 17 rfl rfl)
theorem dX57_checkOf_20 : decode cX57_checkOf 20 = .ok (.lrem, 1) := dk_113 (dk_at dksX57_checkOf_0 20 rfl rfl)
theorem dX57_checkOf_21 : decode cX57_checkOf 21 = .ok (.l2i, 1) := dk_136 (dk_at dksX57_checkOf_0 21 rfl rfl)
theorem dX57_checkOf_22 : decode cX57_checkOf 22 = .ok (.istore 7, 2) := dk_54 7 (dk_at dksX57_checkOf_0 22 rfl rfl)
theorem dX57_checkOf_24 : decode cX57_checkOf 24 = .ok (.iconst 2, 1) := dk_5 (dk_at dksX57_checkOf_1 0 rfl rfl)
theorem dX57_checkOf_25 : decode cX57_checkOf 25 = .ok (.iload 7, 2) := dk_21 7 (dk_at dksX57_checkOf_1 1 rfl rfl)
theorem dX57_checkOf_27 : decode cX57_checkOf 27 = .ok (.imul, 1) := dk_104 (dk_at dksX57_checkOf_1 3 rfl rfl)
theorem dX57_checkOf_28 : decode cX57_checkOf 28 = .ok (.bipush 9, 2) := dk_16 9 (dk_at dksX57_checkOf_1 4 rfl rfl)
theorem dX57_checkOf_30 : decode cX57_checkOf 30 = .ok (.if_icmp .le 13, 3) := dk_164 0 13 (dk_at dksX57_checkOf_1 6 rfl rfl)
theorem dX57_checkOf_33 : decode cX57_checkOf 33 = .ok (.iconst 2, 1) := dk_5 (dk_at dksX57_checkOf_1 9 rfl rfl)
theorem dX57_checkOf_34 : decode cX57_checkOf 34 = .ok (.iload 7, 2) := dk_21 7 (dk_at dksX57_checkOf_1 10 rfl rfl)
theorem dX57_checkOf_36 : decode cX57_checkOf 36 = .ok (.imul, 1) := dk_104 (dk_at dksX57_checkOf_1 12 rfl rfl)
theorem dX57_checkOf_37 : decode cX57_checkOf 37 = .ok (.bipush 9, 2) := dk_16 9 (dk_at dksX57_checkOf_1 13 rfl rfl)
theorem dX57_checkOf_39 : decode cX57_checkOf 39 = .ok (.isub, 1) := dk_100 (dk_at dksX57_checkOf_1 15 rfl rfl)
theorem dX57_checkOf_40 : decode cX57_checkOf 40 = .ok (.goto 7, 3) := dk_167 0 7 (dk_at dksX57_checkOf_1 16 rfl rfl)
theorem dX57_checkOf_43 : decode cX57_checkOf 43 = .ok (.iconst 2, 1) := dk_5 (dk_at dksX57_checkOf_1 19 rfl rfl)
theorem dX57_checkOf_44 : decode cX57_checkOf 44 = .ok (.iload 7, 2) := dk_21 7 (dk_at dksX57_checkOf_1 20 rfl rfl)
theorem dX57_checkOf_46 : decode cX57_checkOf 46 = .ok (.imul, 1) := dk_104 (dk_at dksX57_checkOf_1 22 rfl rfl)
theorem dX57_checkOf_47 : decode cX57_checkOf 47 = .ok (.istore 8, 2) := dk_54 8 (dk_at dksX57_checkOf_2 0 rfl rfl)
theorem dX57_checkOf_49 : decode cX57_checkOf 49 = .ok (.iload_n 3, 1) := dk_29 (dk_at dksX57_checkOf_2 2 rfl rfl)
theorem dX57_checkOf_50 : decode cX57_checkOf 50 = .ok (.iload 4, 2) := dk_21 4 (dk_at dksX57_checkOf_2 3 rfl rfl)
theorem dX57_checkOf_52 : decode cX57_checkOf 52 = .ok (.ifCond .ne 8, 3) := dk_154 0 8 (dk_at dksX57_checkOf_2 5 rfl rfl)
theorem dX57_checkOf_55 : decode cX57_checkOf 55 = .ok (.iload 7, 2) := dk_21 7 (dk_at dksX57_checkOf_2 8 rfl rfl)
theorem dX57_checkOf_57 : decode cX57_checkOf 57 = .ok (.goto 16, 3) := dk_167 0 16 (dk_at dksX57_checkOf_2 10 rfl rfl)
theorem dX57_checkOf_60 : decode cX57_checkOf 60 = .ok (.iload_n 0, 1) := dk_26 (dk_at dksX57_checkOf_2 13 rfl rfl)
theorem dX57_checkOf_61 : decode cX57_checkOf 61 = .ok (.ifCond .ne 10, 3) := dk_154 0 10 (dk_at dksX57_checkOf_2 14 rfl rfl)
theorem dX57_checkOf_64 : decode cX57_checkOf 64 = .ok (.iconst 3, 1) := dk_6 (dk_at dksX57_checkOf_2 17 rfl rfl)
theorem dX57_checkOf_65 : decode cX57_checkOf 65 = .ok (.iload 7, 2) := dk_21 7 (dk_at dksX57_checkOf_2 18 rfl rfl)
theorem dX57_checkOf_67 : decode cX57_checkOf 67 = .ok (.imul, 1) := dk_104 (dk_at dksX57_checkOf_2 20 rfl rfl)
theorem dX57_checkOf_68 : decode cX57_checkOf 68 = .ok (.goto 5, 3) := dk_167 0 5 (dk_at dksX57_checkOf_2 21 rfl rfl)
theorem dX57_checkOf_71 : decode cX57_checkOf 71 = .ok (.iload 8, 2) := dk_21 8 (dk_at dksX57_checkOf_3 0 rfl rfl)
theorem dX57_checkOf_73 : decode cX57_checkOf 73 = .ok (.iadd, 1) := dk_96 (dk_at dksX57_checkOf_3 2 rfl rfl)
theorem dX57_checkOf_74 : decode cX57_checkOf 74 = .ok (.istore_n 3, 1) := dk_62 (dk_at dksX57_checkOf_3 3 rfl rfl)
theorem dX57_checkOf_75 : decode cX57_checkOf 75 = .ok (.iload 4, 2) := dk_21 4 (dk_at dksX57_checkOf_3 4 rfl rfl)
theorem dX57_checkOf_77 : decode cX57_checkOf 77 = .ok (.ifCond .ne 7, 3) := dk_154 0 7 (dk_at dksX57_checkOf_3 6 rfl rfl)
theorem dX57_checkOf_80 : decode cX57_checkOf 80 = .ok (.iconst 1, 1) := dk_4 (dk_at dksX57_checkOf_3 9 rfl rfl)
theorem dX57_checkOf_81 : decode cX57_checkOf 81 = .ok (.goto 4, 3) := dk_167 0 4 (dk_at dksX57_checkOf_3 10 rfl rfl)
theorem dX57_checkOf_84 : decode cX57_checkOf 84 = .ok (.iconst 0, 1) := dk_3 (dk_at dksX57_checkOf_3 13 rfl rfl)
theorem dX57_checkOf_85 : decode cX57_checkOf 85 = .ok (.istore 4, 2) := dk_54 4 (dk_at dksX57_checkOf_3 14 rfl rfl)
theorem dX57_checkOf_87 : decode cX57_checkOf 87 = .ok (.lload 5, 2) := dk_22 5 (dk_at dksX57_checkOf_3 16 rfl rfl)
theorem dX57_checkOf_89 : decode cX57_checkOf 89 = .ok (.ldc2_w 115, 3) := dk_20 0 115 (dk_at dksX57_checkOf_3 18 rfl rfl)
theorem dX57_checkOf_92 : decode cX57_checkOf 92 = .ok (.ldiv, 1) := dk_109 (dk_at dksX57_checkOf_3 21 rfl rfl)
theorem dX57_checkOf_93 : decode cX57_checkOf 93 = .ok (.lstore 5, 2) := dk_55 5 (dk_at dksX57_checkOf_3 22 rfl rfl)
theorem dX57_checkOf_95 : decode cX57_checkOf 95 = .ok (.goto (-87), 3) := dk_167 255 169 (dk_at dksX57_checkOf_4 0 rfl rfl)
theorem dX57_checkOf_98 : decode cX57_checkOf 98 = .ok (.bipush 10, 2) := dk_16 10 (dk_at dksX57_checkOf_4 3 rfl rfl)
theorem dX57_checkOf_100 : decode cX57_checkOf 100 = .ok (.iload_n 3, 1) := dk_29 (dk_at dksX57_checkOf_4 5 rfl rfl)
theorem dX57_checkOf_101 : decode cX57_checkOf 101 = .ok (.bipush 10, 2) := dk_16 10 (dk_at dksX57_checkOf_4 6 rfl rfl)
theorem dX57_checkOf_103 : decode cX57_checkOf 103 = .ok (.irem, 1) := dk_112 (dk_at dksX57_checkOf_4 8 rfl rfl)
theorem dX57_checkOf_104 : decode cX57_checkOf 104 = .ok (.isub, 1) := dk_100 (dk_at dksX57_checkOf_4 9 rfl rfl)
theorem dX57_checkOf_105 : decode cX57_checkOf 105 = .ok (.bipush 10, 2) := dk_16 10 (dk_at dksX57_checkOf_4 10 rfl rfl)
theorem dX57_checkOf_107 : decode cX57_checkOf 107 = .ok (.irem, 1) := dk_112 (dk_at dksX57_checkOf_4 12 rfl rfl)
theorem dX57_checkOf_108 : decode cX57_checkOf 108 = .ok (.ireturn, 1) := dk_172 (dk_at dksX57_checkOf_4 13 rfl rfl)
abbrev cX57_payingOf : ByteArray := prog_59_method_22_code
def yX57_payingOf : MethodName := ⟨RX57, "payingOf", "(JI)I"⟩
def dkwX57_payingOf_3 : List UInt8 := [21, 4, 172]
abbrev dktX57_payingOf_3 : List UInt8 := dkwX57_payingOf_3 ++ []
def dkwX57_payingOf_2 : List UInt8 := [21, 5, 46, 46, 29, 160, 0, 8, 21, 5, 167, 0, 5, 21, 4, 54, 4, 132, 5, 1, 167, 255, 197]
abbrev dktX57_payingOf_2 : List UInt8 := dkwX57_payingOf_2 ++ dktX57_payingOf_3
def dkwX57_payingOf_1 : List UInt8 := [153, 0, 36, 42, 180, 0, 32, 21, 5, 47, 31, 148, 154, 0, 24, 42, 180, 0, 16, 42, 180, 0, 36]
abbrev dktX57_payingOf_1 : List UInt8 := dkwX57_payingOf_1 ++ dktX57_payingOf_2
def dkwX57_payingOf_0 : List UInt8 := [2, 54, 4, 3, 54, 5, 21, 5, 42, 180, 0, 140, 162, 0, 56, 42, 180, 0, 45, 21, 5, 51]
abbrev dktX57_payingOf_0 : List UInt8 := dkwX57_payingOf_0 ++ dktX57_payingOf_1
theorem dksX57_payingOf_0 : cX57_payingOf.data.toList.drop 0 = dktX57_payingOf_0 := by decide +kernel
theorem dksX57_payingOf_1 : cX57_payingOf.data.toList.drop 22 = dktX57_payingOf_1 := dk_seg dksX57_payingOf_0 22 rfl rfl
theorem dksX57_payingOf_2 : cX57_payingOf.data.toList.drop 45 = dktX57_payingOf_2 := dk_seg dksX57_payingOf_1 23 rfl rfl
theorem dksX57_payingOf_3 : cX57_payingOf.data.toList.drop 68 = dktX57_payingOf_3 := dk_seg dksX57_payingOf_2 23 rfl rfl
theorem dX57_payingOf_0 : decode cX57_payingOf 0 = .ok (.iconst (-1), 1) := dk_2 (dk_at dksX57_payingOf_0 0 rfl rfl)
theorem dX57_payingOf_1 : decode cX57_payingOf 1 = .ok (.istore 4, 2) := dk_54 4 (dk_at dksX57_payingOf_0 1 rfl rfl)
theorem dX57_payingOf_3 : decode cX57_payingOf 3 = .ok (.iconst 0, 1) := dk_3 (dk_at dksX57_payingOf_0 3 rfl rfl)
theorem dX57_payingOf_4 : decode cX57_payingOf 4 = .ok (.istore 5, 2) := dk_54 5 (dk_at dksX57_payingOf_0 4 rfl rfl)
theorem dX57_payingOf_6 : decode cX57_payingOf 6 = .ok (.iload 5, 2) := dk_21 5 (dk_at dksX57_payingOf_0 6 rfl rfl)
theorem dX57_payingOf_8 : decode cX57_payingOf 8 = .ok (.aload_n 0, 1) := dk_42 (dk_at dksX57_payingOf_0 8 rfl rfl)
theorem dX57_payingOf_9 : decode cX57_payingOf 9 = .ok (.getfield 140, 3) := dk_180 0 140 (dk_at dksX57_payingOf_0 9 rfl rfl)
theorem dX57_payingOf_12 : decode cX57_payingOf 12 = .ok (.if_icmp .ge 56, 3) := dk_162 0 56 (dk_at dksX57_payingOf_0 12 rfl rfl)
theorem dX57_payingOf_15 : decode cX57_payingOf 15 = .ok (.aload_n 0, 1) := dk_42 (dk_at dksX57_payingOf_0 15 rfl rfl)
theorem dX57_payingOf_16 : decode cX57_payingOf 16 = .ok (.getfield 45, 3) := dk_180 0 45 (dk_at dksX57_payingOf_0 16 rfl rfl)
theorem dX57_payingOf_19 : decode cX57_payingOf 19 = .ok (.iload 5, 2) := dk_21 5 (dk_at dksX57_payingOf_0 19 rfl rfl)
theorem dX57_payingOf_21 : decode cX57_payingOf 21 = .ok (.baload, 1) := dk_51 (dk_at dksX57_payingOf_0 21 rfl rfl)
theorem dX57_payingOf_22 : decode cX57_payingOf 22 = .ok (.ifCond .eq 36, 3) := dk_153 0 36 (dk_at dksX57_payingOf_1 0 rfl rfl)
theorem dX57_payingOf_25 : decode cX57_payingOf 25 = .ok (.aload_n 0, 1) := dk_42 (dk_at dksX57_payingOf_1 3 rfl rfl)
theorem dX57_payingOf_26 : decode cX57_payingOf 26 = .ok (.getfield 32, 3) := dk_180 0 32 (dk_at dksX57_payingOf_1 4 rfl rfl)
theorem dX57_payingOf_29 : decode cX57_payingOf 29 = .ok (.iload 5, 2) := dk_21 5 (dk_at dksX57_payingOf_1 7 rfl rfl)
theorem dX57_payingOf_31 : decode cX57_payingOf 31 = .ok (.laload, 1) := dk_47 (dk_at dksX57_payingOf_1 9 rfl rfl)
theorem dX57_payingOf_32 : decode cX57_payingOf 32 = .ok (.lload_n 1, 1) := dk_31 (dk_at dksX57_payingOf_1 10 rfl rfl)
theorem dX57_payingOf_33 : decode cX57_payingOf 33 = .ok (.lcmp, 1) := dk_148 (dk_at dksX57_payingOf_1 11 rfl rfl)
theorem dX57_payingOf_34 : decode cX57_payingOf 34 = .ok (.ifCond .ne 24, 3) := dk_154 0 24 (dk_at dksX57_payingOf_1 12 rfl rfl)
theorem dX57_payingOf_37 : decode cX57_payingOf 37 = .ok (.aload_n 0, 1) := dk_42 (dk_at dksX57_payingOf_1 15 rfl rfl)
theorem dX57_payingOf_38 : decode cX57_payingOf 38 = .ok (.getfield 16, 3) := dk_180 0 16 (dk_at dksX57_payingOf_1 16 rfl rfl)
theorem dX57_payingOf_41 : decode cX57_payingOf 41 = .ok (.aload_n 0, 1) := dk_42 (dk_at dksX57_payingOf_1 19 rfl rfl)
theorem dX57_payingOf_42 : decode cX57_payingOf 42 = .ok (.getfield 36, 3) := dk_180 0 36 (dk_at dksX57_payingOf_1 20 rfl rfl)
theorem dX57_payingOf_45 : decode cX57_payingOf 45 = .ok (.iload 5, 2) := dk_21 5 (dk_at dksX57_payingOf_2 0 rfl rfl)
theorem dX57_payingOf_47 : decode cX57_payingOf 47 = .ok (.iaload, 1) := dk_46 (dk_at dksX57_payingOf_2 2 rfl rfl)
theorem dX57_payingOf_48 : decode cX57_payingOf 48 = .ok (.iaload, 1) := dk_46 (dk_at dksX57_payingOf_2 3 rfl rfl)
theorem dX57_payingOf_49 : decode cX57_payingOf 49 = .ok (.iload_n 3, 1) := dk_29 (dk_at dksX57_payingOf_2 4 rfl rfl)
theorem dX57_payingOf_50 : decode cX57_payingOf 50 = .ok (.if_icmp .ne 8, 3) := dk_160 0 8 (dk_at dksX57_payingOf_2 5 rfl rfl)
theorem dX57_payingOf_53 : decode cX57_payingOf 53 = .ok (.iload 5, 2) := dk_21 5 (dk_at dksX57_payingOf_2 8 rfl rfl)
theorem dX57_payingOf_55 : decode cX57_payingOf 55 = .ok (.goto 5, 3) := dk_167 0 5 (dk_at dksX57_payingOf_2 10 rfl rfl)
theorem dX57_payingOf_58 : decode cX57_payingOf 58 = .ok (.iload 4, 2) := dk_21 4 (dk_at dksX57_payingOf_2 13 rfl rfl)
theorem dX57_payingOf_60 : decode cX57_payingOf 60 = .ok (.istore 4, 2) := dk_54 4 (dk_at dksX57_payingOf_2 15 rfl rfl)
theorem dX57_payingOf_62 : decode cX57_payingOf 62 = .ok (.iinc 5 1, 3) := dk_132 5 1 (dk_at dksX57_payingOf_2 17 rfl rfl)
theorem dX57_payingOf_65 : decode cX57_payingOf 65 = .ok (.goto (-59), 3) := dk_167 255 197 (dk_at dksX57_payingOf_2 20 rfl rfl)
theorem dX57_payingOf_68 : decode cX57_payingOf 68 = .ok (.iload 4, 2) := dk_21 4 (dk_at dksX57_payingOf_3 0 rfl rfl)
theorem dX57_payingOf_70 : decode cX57_payingOf 70 = .ok (.ireturn, 1) := dk_172 (dk_at dksX57_payingOf_3 2 rfl rfl)
abbrev cX57_refuse : ByteArray := prog_59_method_24_code
def yX57_refuse : MethodName := ⟨RX57, "refuse", "(IJ)V"⟩
def dkwX57_refuse_5 : List UInt8 := [180, 0, 150, 4, 96, 181, 0, 150, 177]
abbrev dktX57_refuse_5 : List UInt8 := dkwX57_refuse_5 ++ []
def dkwX57_refuse_4 : List UInt8 := [180, 0, 54, 21, 4, 46, 6, 112, 154, 0, 23, 42, 180, 0, 57, 42, 180, 0, 150, 27, 79, 42, 89]
abbrev dktX57_refuse_4 : List UInt8 := dkwX57_refuse_4 ++ dktX57_refuse_5
def dkwX57_refuse_3 : List UInt8 := [180, 0, 147, 160, 0, 12, 42, 180, 0, 147, 4, 96, 167, 0, 7, 42, 180, 0, 147, 181, 0, 147, 42]
abbrev dktX57_refuse_3 : List UInt8 := dkwX57_refuse_3 ++ dktX57_refuse_4
def dkwX57_refuse_2 : List UInt8 := [180, 0, 147, 160, 0, 7, 4, 167, 0, 12, 42, 180, 0, 54, 21, 4, 46, 4, 96, 79, 42, 21, 4, 42]
abbrev dktX57_refuse_2 : List UInt8 := dkwX57_refuse_2 ++ dktX57_refuse_3
def dkwX57_refuse_1 : List UInt8 := [132, 4, 1, 167, 255, 232, 42, 180, 0, 51, 21, 4, 32, 80, 42, 180, 0, 54, 21, 4, 21, 4, 42]
abbrev dktX57_refuse_1 : List UInt8 := dkwX57_refuse_1 ++ dktX57_refuse_2
def dkwX57_refuse_0 : List UInt8 := [3, 54, 4, 21, 4, 42, 180, 0, 147, 162, 0, 21, 42, 180, 0, 51, 21, 4, 47, 32, 148, 153, 0, 9]
abbrev dktX57_refuse_0 : List UInt8 := dkwX57_refuse_0 ++ dktX57_refuse_1
theorem dksX57_refuse_0 : cX57_refuse.data.toList.drop 0 = dktX57_refuse_0 := by decide +kernel
theorem dksX57_refuse_1 : cX57_refuse.data.toList.drop 24 = dktX57_refuse_1 := dk_seg dksX57_refuse_0 24 rfl rfl
theorem dksX57_refuse_2 : cX57_refuse.data.toList.drop 47 = dktX57_refuse_2 := dk_seg dksX57_refuse_1 23 rfl rfl
theorem dksX57_refuse_3 : cX57_refuse.data.toList.drop 71 = dktX57_refuse_3 := dk_seg dksX57_refuse_2 24 rfl rfl
theorem dksX57_refuse_4 : cX57_refuse.data.toList.drop 94 = dktX57_refuse_4 := dk_seg dksX57_refuse_3 23 rfl rfl
theorem dksX57_refuse_5 : cX57_refuse.data.toList.drop 117 = dktX57_refuse_5 := dk_seg dksX57_refuse_4 23 rfl rfl
theorem dX57_refuse_0 : decode cX57_refuse 0 = .ok (.iconst 0, 1) := dk_3 (dk_at dksX57_refuse_0 0 rfl rfl)
theorem dX57_refuse_1 : decode cX57_refuse 1 = .ok (.istore 4, 2) := dk_54 4 (dk_at dksX57_refuse_0 1 rfl rfl)
theorem dX57_refuse_3 : decode cX57_refuse 3 = .ok (.iload 4, 2) := dk_21 4 (dk_at dksX57_refuse_0 3 rfl rfl)
theorem dX57_refuse_5 : decode cX57_refuse 5 = .ok (.aload_n 0, 1) := dk_42 (dk_at dksX57_refuse_0 5 rfl rfl)
theorem dX57_refuse_6 : decode cX57_refuse 6 = .ok (.getfield 147, 3) := dk_180 0 147 (dk_at dksX57_refuse_0 6 rfl rfl)
theorem dX57_refuse_9 : decode cX57_refuse 9 = .ok (.if_icmp .ge 21, 3) := dk_162 0 21 (dk_at dksX57_refuse_0 9 rfl rfl)
theorem dX57_refuse_12 : decode cX57_refuse 12 = .ok (.aload_n 0, 1) := dk_42 (dk_at dksX57_refuse_0 12 rfl rfl)
theorem dX57_refuse_13 : decode cX57_refuse 13 = .ok (.getfield 51, 3) := dk_180 0 51 (dk_at dksX57_refuse_0 13 rfl rfl)
theorem dX57_refuse_16 : decode cX57_refuse 16 = .ok (.iload 4, 2) := dk_21 4 (dk_at dksX57_refuse_0 16 rfl rfl)
theorem dX57_refuse_18 : decode cX57_refuse 18 = .ok (.laload, 1) := dk_47 (dk_at dksX57_refuse_0 18 rfl rfl)
theorem dX57_refuse_19 : decode cX57_refuse 19 = .ok (.lload_n 2, 1) := dk_32 (dk_at dksX57_refuse_0 19 rfl rfl)
theorem dX57_refuse_20 : decode cX57_refuse 20 = .ok (.lcmp, 1) := dk_148 (dk_at dksX57_refuse_0 20 rfl rfl)
theorem dX57_refuse_21 : decode cX57_refuse 21 = .ok (.ifCond .eq 9, 3) := dk_153 0 9 (dk_at dksX57_refuse_0 21 rfl rfl)
theorem dX57_refuse_24 : decode cX57_refuse 24 = .ok (.iinc 4 1, 3) := dk_132 4 1 (dk_at dksX57_refuse_1 0 rfl rfl)
theorem dX57_refuse_27 : decode cX57_refuse 27 = .ok (.goto (-24), 3) := dk_167 255 232 (dk_at dksX57_refuse_1 3 rfl rfl)
theorem dX57_refuse_30 : decode cX57_refuse 30 = .ok (.aload_n 0, 1) := dk_42 (dk_at dksX57_refuse_1 6 rfl rfl)
theorem dX57_refuse_31 : decode cX57_refuse 31 = .ok (.getfield 51, 3) := dk_180 0 51 (dk_at dksX57_refuse_1 7 rfl rfl)
theorem dX57_refuse_34 : decode cX57_refuse 34 = .ok (.iload 4, 2) := dk_21 4 (dk_at dksX57_refuse_1 10 rfl rfl)
theorem dX57_refuse_36 : decode cX57_refuse 36 = .ok (.lload_n 2, 1) := dk_32 (dk_at dksX57_refuse_1 12 rfl rfl)
theorem dX57_refuse_37 : decode cX57_refuse 37 = .ok (.lastore, 1) := dk_80 (dk_at dksX57_refuse_1 13 rfl rfl)
theorem dX57_refuse_38 : decode cX57_refuse 38 = .ok (.aload_n 0, 1) := dk_42 (dk_at dksX57_refuse_1 14 rfl rfl)
theorem dX57_refuse_39 : decode cX57_refuse 39 = .ok (.getfield 54, 3) := dk_180 0 54 (dk_at dksX57_refuse_1 15 rfl rfl)
theorem dX57_refuse_42 : decode cX57_refuse 42 = .ok (.iload 4, 2) := dk_21 4 (dk_at dksX57_refuse_1 18 rfl rfl)
theorem dX57_refuse_44 : decode cX57_refuse 44 = .ok (.iload 4, 2) := dk_21 4 (dk_at dksX57_refuse_1 20 rfl rfl)
theorem dX57_refuse_46 : decode cX57_refuse 46 = .ok (.aload_n 0, 1) := dk_42 (dk_at dksX57_refuse_1 22 rfl rfl)
theorem dX57_refuse_47 : decode cX57_refuse 47 = .ok (.getfield 147, 3) := dk_180 0 147 (dk_at dksX57_refuse_2 0 rfl rfl)
theorem dX57_refuse_50 : decode cX57_refuse 50 = .ok (.if_icmp .ne 7, 3) := dk_160 0 7 (dk_at dksX57_refuse_2 3 rfl rfl)
theorem dX57_refuse_53 : decode cX57_refuse 53 = .ok (.iconst 1, 1) := dk_4 (dk_at dksX57_refuse_2 6 rfl rfl)
theorem dX57_refuse_54 : decode cX57_refuse 54 = .ok (.goto 12, 3) := dk_167 0 12 (dk_at dksX57_refuse_2 7 rfl rfl)
theorem dX57_refuse_57 : decode cX57_refuse 57 = .ok (.aload_n 0, 1) := dk_42 (dk_at dksX57_refuse_2 10 rfl rfl)
theorem dX57_refuse_58 : decode cX57_refuse 58 = .ok (.getfield 54, 3) := dk_180 0 54 (dk_at dksX57_refuse_2 11 rfl rfl)
theorem dX57_refuse_61 : decode cX57_refuse 61 = .ok (.iload 4, 2) := dk_21 4 (dk_at dksX57_refuse_2 14 rfl rfl)
theorem dX57_refuse_63 : decode cX57_refuse 63 = .ok (.iaload, 1) := dk_46 (dk_at dksX57_refuse_2 16 rfl rfl)
theorem dX57_refuse_64 : decode cX57_refuse 64 = .ok (.iconst 1, 1) := dk_4 (dk_at dksX57_refuse_2 17 rfl rfl)
theorem dX57_refuse_65 : decode cX57_refuse 65 = .ok (.iadd, 1) := dk_96 (dk_at dksX57_refuse_2 18 rfl rfl)
theorem dX57_refuse_66 : decode cX57_refuse 66 = .ok (.iastore, 1) := dk_79 (dk_at dksX57_refuse_2 19 rfl rfl)
theorem dX57_refuse_67 : decode cX57_refuse 67 = .ok (.aload_n 0, 1) := dk_42 (dk_at dksX57_refuse_2 20 rfl rfl)
theorem dX57_refuse_68 : decode cX57_refuse 68 = .ok (.iload 4, 2) := dk_21 4 (dk_at dksX57_refuse_2 21 rfl rfl)
theorem dX57_refuse_70 : decode cX57_refuse 70 = .ok (.aload_n 0, 1) := dk_42 (dk_at dksX57_refuse_2 23 rfl rfl)
theorem dX57_refuse_71 : decode cX57_refuse 71 = .ok (.getfield 147, 3) := dk_180 0 147 (dk_at dksX57_refuse_3 0 rfl rfl)
theorem dX57_refuse_74 : decode cX57_refuse 74 = .ok (.if_icmp .ne 12, 3) := dk_160 0 12 (dk_at dksX57_refuse_3 3 rfl rfl)
theorem dX57_refuse_77 : decode cX57_refuse 77 = .ok (.aload_n 0, 1) := dk_42 (dk_at dksX57_refuse_3 6 rfl rfl)
theorem dX57_refuse_78 : decode cX57_refuse 78 = .ok (.getfield 147, 3) := dk_180 0 147 (dk_at dksX57_refuse_3 7 rfl rfl)
theorem dX57_refuse_81 : decode cX57_refuse 81 = .ok (.iconst 1, 1) := dk_4 (dk_at dksX57_refuse_3 10 rfl rfl)
theorem dX57_refuse_82 : decode cX57_refuse 82 = .ok (.iadd, 1) := dk_96 (dk_at dksX57_refuse_3 11 rfl rfl)
theorem dX57_refuse_83 : decode cX57_refuse 83 = .ok (.goto 7, 3) := dk_167 0 7 (dk_at dksX57_refuse_3 12 rfl rfl)
theorem dX57_refuse_86 : decode cX57_refuse 86 = .ok (.aload_n 0, 1) := dk_42 (dk_at dksX57_refuse_3 15 rfl rfl)
theorem dX57_refuse_87 : decode cX57_refuse 87 = .ok (.getfield 147, 3) := dk_180 0 147 (dk_at dksX57_refuse_3 16 rfl rfl)
theorem dX57_refuse_90 : decode cX57_refuse 90 = .ok (.putfield 147, 3) := dk_181 0 147 (dk_at dksX57_refuse_3 19 rfl rfl)
theorem dX57_refuse_93 : decode cX57_refuse 93 = .ok (.aload_n 0, 1) := dk_42 (dk_at dksX57_refuse_3 22 rfl rfl)
theorem dX57_refuse_94 : decode cX57_refuse 94 = .ok (.getfield 54, 3) := dk_180 0 54 (dk_at dksX57_refuse_4 0 rfl rfl)
theorem dX57_refuse_97 : decode cX57_refuse 97 = .ok (.iload 4, 2) := dk_21 4 (dk_at dksX57_refuse_4 3 rfl rfl)
theorem dX57_refuse_99 : decode cX57_refuse 99 = .ok (.iaload, 1) := dk_46 (dk_at dksX57_refuse_4 5 rfl rfl)
theorem dX57_refuse_100 : decode cX57_refuse 100 = .ok (.iconst 3, 1) := dk_6 (dk_at dksX57_refuse_4 6 rfl rfl)
theorem dX57_refuse_101 : decode cX57_refuse 101 = .ok (.irem, 1) := dk_112 (dk_at dksX57_refuse_4 7 rfl rfl)
theorem dX57_refuse_102 : decode cX57_refuse 102 = .ok (.ifCond .ne 23, 3) := dk_154 0 23 (dk_at dksX57_refuse_4 8 rfl rfl)
theorem dX57_refuse_105 : decode cX57_refuse 105 = .ok (.aload_n 0, 1) := dk_42 (dk_at dksX57_refuse_4 11 rfl rfl)
theorem dX57_refuse_106 : decode cX57_refuse 106 = .ok (.getfield 57, 3) := dk_180 0 57 (dk_at dksX57_refuse_4 12 rfl rfl)
theorem dX57_refuse_109 : decode cX57_refuse 109 = .ok (.aload_n 0, 1) := dk_42 (dk_at dksX57_refuse_4 15 rfl rfl)
theorem dX57_refuse_110 : decode cX57_refuse 110 = .ok (.getfield 150, 3) := dk_180 0 150 (dk_at dksX57_refuse_4 16 rfl rfl)
theorem dX57_refuse_113 : decode cX57_refuse 113 = .ok (.iload_n 1, 1) := dk_27 (dk_at dksX57_refuse_4 19 rfl rfl)
theorem dX57_refuse_114 : decode cX57_refuse 114 = .ok (.iastore, 1) := dk_79 (dk_at dksX57_refuse_4 20 rfl rfl)
theorem dX57_refuse_115 : decode cX57_refuse 115 = .ok (.aload_n 0, 1) := dk_42 (dk_at dksX57_refuse_4 21 rfl rfl)
theorem dX57_refuse_116 : decode cX57_refuse 116 = .ok (.dup, 1) := dk_89 (dk_at dksX57_refuse_4 22 rfl rfl)
theorem dX57_refuse_117 : decode cX57_refuse 117 = .ok (.getfield 150, 3) := dk_180 0 150 (dk_at dksX57_refuse_5 0 rfl rfl)
theorem dX57_refuse_120 : decode cX57_refuse 120 = .ok (.iconst 1, 1) := dk_4 (dk_at dksX57_refuse_5 3 rfl rfl)
theorem dX57_refuse_121 : decode cX57_refuse 121 = .ok (.iadd, 1) := dk_96 (dk_at dksX57_refuse_5 4 rfl rfl)
theorem dX57_refuse_122 : decode cX57_refuse 122 = .ok (.putfield 150, 3) := dk_181 0 150 (dk_at dksX57_refuse_5 5 rfl rfl)
theorem dX57_refuse_125 : decode cX57_refuse 125 = .ok (.return_, 1) := dk_177 (dk_at dksX57_refuse_5 8 rfl rfl)
abbrev cX57_width : ByteArray := prog_59_method_4_code
def yX57_width : MethodName := ⟨RX57, "width", "(II)Z"⟩
def dkwX57_width_1 : List UInt8 := [154, 0, 5, 3, 172, 42, 180, 0, 7, 27, 28, 79, 4, 172]
abbrev dktX57_width_1 : List UInt8 := dkwX57_width_1 ++ []
def dkwX57_width_0 : List UInt8 := [42, 3, 181, 0, 81, 27, 133, 20, 0, 85, 184, 0, 87, 153, 0, 14, 28, 133, 20, 0, 91, 184, 0, 87]
abbrev dktX57_width_0 : List UInt8 := dkwX57_width_0 ++ dktX57_width_1
theorem dksX57_width_0 : cX57_width.data.toList.drop 0 = dktX57_width_0 := by decide +kernel
theorem dksX57_width_1 : cX57_width.data.toList.drop 24 = dktX57_width_1 := dk_seg dksX57_width_0 24 rfl rfl
theorem dX57_width_0 : decode cX57_width 0 = .ok (.aload_n 0, 1) := dk_42 (dk_at dksX57_width_0 0 rfl rfl)
theorem dX57_width_1 : decode cX57_width 1 = .ok (.iconst 0, 1) := dk_3 (dk_at dksX57_width_0 1 rfl rfl)
theorem dX57_width_2 : decode cX57_width 2 = .ok (.putfield 81, 3) := dk_181 0 81 (dk_at dksX57_width_0 2 rfl rfl)
theorem dX57_width_5 : decode cX57_width 5 = .ok (.iload_n 1, 1) := dk_27 (dk_at dksX57_width_0 5 rfl rfl)
theorem dX57_width_6 : decode cX57_width 6 = .ok (.i2l, 1) := dk_133 (dk_at dksX57_width_0 6 rfl rfl)
theorem dX57_width_7 : decode cX57_width 7 = .ok (.ldc2_w 85, 3) := dk_20 0 85 (dk_at dksX57_width_0 7 rfl rfl)
theorem dX57_width_10 : decode cX57_width 10 = .ok (.invokestatic 87, 3) := dk_184 0 87 (dk_at dksX57_width_0 10 rfl rfl)
theorem dX57_width_13 : decode cX57_width 13 = .ok (.ifCond .eq 14, 3) := dk_153 0 14 (dk_at dksX57_width_0 13 rfl rfl)
theorem dX57_width_16 : decode cX57_width 16 = .ok (.iload_n 2, 1) := dk_28 (dk_at dksX57_width_0 16 rfl rfl)
theorem dX57_width_17 : decode cX57_width 17 = .ok (.i2l, 1) := dk_133 (dk_at dksX57_width_0 17 rfl rfl)
theorem dX57_width_18 : decode cX57_width 18 = .ok (.ldc2_w 91, 3) := dk_20 0 91 (dk_at dksX57_width_0 18 rfl rfl)
theorem dX57_width_21 : decode cX57_width 21 = .ok (.invokestatic 87, 3) := dk_184 0 87 (dk_at dksX57_width_0 21 rfl rfl)
theorem dX57_width_24 : decode cX57_width 24 = .ok (.ifCond .ne 5, 3) := dk_154 0 5 (dk_at dksX57_width_1 0 rfl rfl)
theorem dX57_width_27 : decode cX57_width 27 = .ok (.iconst 0, 1) := dk_3 (dk_at dksX57_width_1 3 rfl rfl)
theorem dX57_width_28 : decode cX57_width 28 = .ok (.ireturn, 1) := dk_172 (dk_at dksX57_width_1 4 rfl rfl)
theorem dX57_width_29 : decode cX57_width 29 = .ok (.aload_n 0, 1) := dk_42 (dk_at dksX57_width_1 5 rfl rfl)
theorem dX57_width_30 : decode cX57_width 30 = .ok (.getfield 7, 3) := dk_180 0 7 (dk_at dksX57_width_1 6 rfl rfl)
theorem dX57_width_33 : decode cX57_width 33 = .ok (.iload_n 1, 1) := dk_27 (dk_at dksX57_width_1 9 rfl rfl)
theorem dX57_width_34 : decode cX57_width 34 = .ok (.iload_n 2, 1) := dk_28 (dk_at dksX57_width_1 10 rfl rfl)
theorem dX57_width_35 : decode cX57_width 35 = .ok (.iastore, 1) := dk_79 (dk_at dksX57_width_1 11 rfl rfl)
theorem dX57_width_36 : decode cX57_width 36 = .ok (.iconst 1, 1) := dk_4 (dk_at dksX57_width_1 12 rfl rfl)
theorem dX57_width_37 : decode cX57_width 37 = .ok (.ireturn, 1) := dk_172 (dk_at dksX57_width_1 13 rfl rfl)
abbrev cX57_read : ByteArray := prog_59_method_10_code
def yX57_read : MethodName := ⟨RX57, "read", "()I"⟩
def dkwX57_read_1 : List UInt8 := [180, 0, 105, 167, 0, 4, 2, 172]
abbrev dktX57_read_1 : List UInt8 := dkwX57_read_1 ++ []
def dkwX57_read_0 : List UInt8 := [42, 3, 181, 0, 81, 42, 3, 182, 0, 111, 154, 0, 11, 42, 4, 182, 0, 111, 153, 0, 10, 42]
abbrev dktX57_read_0 : List UInt8 := dkwX57_read_0 ++ dktX57_read_1
theorem dksX57_read_0 : cX57_read.data.toList.drop 0 = dktX57_read_0 := by decide +kernel
theorem dksX57_read_1 : cX57_read.data.toList.drop 22 = dktX57_read_1 := dk_seg dksX57_read_0 22 rfl rfl
theorem dX57_read_0 : decode cX57_read 0 = .ok (.aload_n 0, 1) := dk_42 (dk_at dksX57_read_0 0 rfl rfl)
theorem dX57_read_1 : decode cX57_read 1 = .ok (.iconst 0, 1) := dk_3 (dk_at dksX57_read_0 1 rfl rfl)
theorem dX57_read_2 : decode cX57_read 2 = .ok (.putfield 81, 3) := dk_181 0 81 (dk_at dksX57_read_0 2 rfl rfl)
theorem dX57_read_5 : decode cX57_read 5 = .ok (.aload_n 0, 1) := dk_42 (dk_at dksX57_read_0 5 rfl rfl)
theorem dX57_read_6 : decode cX57_read 6 = .ok (.iconst 0, 1) := dk_3 (dk_at dksX57_read_0 6 rfl rfl)
theorem dX57_read_7 : decode cX57_read 7 = .ok (.invokevirtual 111, 3) := dk_182 0 111 (dk_at dksX57_read_0 7 rfl rfl)
theorem dX57_read_10 : decode cX57_read 10 = .ok (.ifCond .ne 11, 3) := dk_154 0 11 (dk_at dksX57_read_0 10 rfl rfl)
theorem dX57_read_13 : decode cX57_read 13 = .ok (.aload_n 0, 1) := dk_42 (dk_at dksX57_read_0 13 rfl rfl)
theorem dX57_read_14 : decode cX57_read 14 = .ok (.iconst 1, 1) := dk_4 (dk_at dksX57_read_0 14 rfl rfl)
theorem dX57_read_15 : decode cX57_read 15 = .ok (.invokevirtual 111, 3) := dk_182 0 111 (dk_at dksX57_read_0 15 rfl rfl)
theorem dX57_read_18 : decode cX57_read 18 = .ok (.ifCond .eq 10, 3) := dk_153 0 10 (dk_at dksX57_read_0 18 rfl rfl)
theorem dX57_read_21 : decode cX57_read 21 = .ok (.aload_n 0, 1) := dk_42 (dk_at dksX57_read_0 21 rfl rfl)
theorem dX57_read_22 : decode cX57_read 22 = .ok (.getfield 105, 3) := dk_180 0 105 (dk_at dksX57_read_1 0 rfl rfl)
theorem dX57_read_25 : decode cX57_read 25 = .ok (.goto 4, 3) := dk_167 0 4 (dk_at dksX57_read_1 3 rfl rfl)
theorem dX57_read_28 : decode cX57_read 28 = .ok (.iconst (-1), 1) := dk_2 (dk_at dksX57_read_1 6 rfl rfl)
theorem dX57_read_29 : decode cX57_read 29 = .ok (.ireturn, 1) := dk_172 (dk_at dksX57_read_1 7 rfl rfl)
abbrev cX57_readSo : ByteArray := prog_59_method_9_code
def yX57_readSo : MethodName := ⟨RX57, "readSo", "(Z)Z"⟩
def dkwX57_readSo_7 : List UInt8 := [29, 153, 0, 8, 21, 4, 167, 0, 4, 3, 181, 0, 105, 29, 172]
abbrev dktX57_readSo_7 : List UInt8 := dkwX57_readSo_7 ++ []
def dkwX57_readSo_6 : List UInt8 := [79, 42, 180, 0, 13, 21, 5, 46, 155, 0, 7, 4, 167, 0, 4, 3, 62, 132, 5, 1, 167, 255, 208, 42]
abbrev dktX57_readSo_6 : List UInt8 := dkwX57_readSo_6 ++ dktX57_readSo_7
def dkwX57_readSo_5 : List UInt8 := [162, 0, 47, 29, 153, 0, 43, 42, 180, 0, 13, 21, 5, 42, 6, 7, 21, 5, 104, 96, 27, 182, 0, 108]
abbrev dktX57_readSo_5 : List UInt8 := dkwX57_readSo_5 ++ dktX57_readSo_6
def dkwX57_readSo_4 : List UInt8 := [160, 0, 7, 4, 167, 0, 4, 3, 62, 28, 16, 6, 100, 7, 108, 54, 4, 3, 54, 5, 21, 5, 21, 4]
abbrev dktX57_readSo_4 : List UInt8 := dkwX57_readSo_4 ++ dktX57_readSo_5
def dkwX57_readSo_3 : List UInt8 := [27, 182, 0, 97, 160, 0, 26, 42, 28, 5, 100, 27, 182, 0, 97, 42, 28, 6, 100, 27, 182, 0, 97]
abbrev dktX57_readSo_3 : List UInt8 := dkwX57_readSo_3 ++ dktX57_readSo_4
def dkwX57_readSo_2 : List UInt8 := [182, 0, 97, 42, 5, 27, 182, 0, 97, 160, 0, 45, 42, 28, 4, 100, 27, 182, 0, 97, 42, 28, 5, 100]
abbrev dktX57_readSo_2 : List UInt8 := dkwX57_readSo_2 ++ dktX57_readSo_3
def dkwX57_readSo_1 : List UInt8 := [153, 0, 5, 3, 172, 42, 3, 27, 182, 0, 97, 42, 4, 27, 182, 0, 97, 160, 0, 60, 42, 4, 27]
abbrev dktX57_readSo_1 : List UInt8 := dkwX57_readSo_1 ++ dktX57_readSo_2
def dkwX57_readSo_0 : List UInt8 := [42, 182, 0, 93, 61, 42, 3, 181, 0, 105, 28, 16, 10, 161, 0, 12, 28, 16, 6, 100, 7, 112]
abbrev dktX57_readSo_0 : List UInt8 := dkwX57_readSo_0 ++ dktX57_readSo_1
theorem dksX57_readSo_0 : cX57_readSo.data.toList.drop 0 = dktX57_readSo_0 := by decide +kernel
theorem dksX57_readSo_1 : cX57_readSo.data.toList.drop 22 = dktX57_readSo_1 := dk_seg dksX57_readSo_0 22 rfl rfl
theorem dksX57_readSo_2 : cX57_readSo.data.toList.drop 45 = dktX57_readSo_2 := dk_seg dksX57_readSo_1 23 rfl rfl
theorem dksX57_readSo_3 : cX57_readSo.data.toList.drop 69 = dktX57_readSo_3 := dk_seg dksX57_readSo_2 24 rfl rfl
theorem dksX57_readSo_4 : cX57_readSo.data.toList.drop 92 = dktX57_readSo_4 := dk_seg dksX57_readSo_3 23 rfl rfl
theorem dksX57_readSo_5 : cX57_readSo.data.toList.drop 116 = dktX57_readSo_5 := dk_seg dksX57_readSo_4 24 rfl rfl
theorem dksX57_readSo_6 : cX57_readSo.data.toList.drop 140 = dktX57_readSo_6 := dk_seg dksX57_readSo_5 24 rfl rfl
theorem dksX57_readSo_7 : cX57_readSo.data.toList.drop 164 = dktX57_readSo_7 := dk_seg dksX57_readSo_6 24 rfl rfl
theorem dX57_readSo_0 : decode cX57_readSo 0 = .ok (.aload_n 0, 1) := dk_42 (dk_at dksX57_readSo_0 0 rfl rfl)
theorem dX57_readSo_1 : decode cX57_readSo 1 = .ok (.invokevirtual 93, 3) := dk_182 0 93 (dk_at dksX57_readSo_0 1 rfl rfl)
theorem dX57_readSo_4 : decode cX57_readSo 4 = .ok (.istore_n 2, 1) := dk_61 (dk_at dksX57_readSo_0 4 rfl rfl)
theorem dX57_readSo_5 : decode cX57_readSo 5 = .ok (.aload_n 0, 1) := dk_42 (dk_at dksX57_readSo_0 5 rfl rfl)
theorem dX57_readSo_6 : decode cX57_readSo 6 = .ok (.iconst 0, 1) := dk_3 (dk_at dksX57_readSo_0 6 rfl rfl)
theorem dX57_readSo_7 : decode cX57_readSo 7 = .ok (.putfield 105, 3) := dk_181 0 105 (dk_at dksX57_readSo_0 7 rfl rfl)
theorem dX57_readSo_10 : decode cX57_readSo 10 = .ok (.iload_n 2, 1) := dk_28 (dk_at dksX57_readSo_0 10 rfl rfl)
theorem dX57_readSo_11 : decode cX57_readSo 11 = .ok (.bipush 10, 2) := dk_16 10 (dk_at dksX57_readSo_0 11 rfl rfl)
theorem dX57_readSo_13 : decode cX57_readSo 13 = .ok (.if_icmp .lt 12, 3) := dk_161 0 12 (dk_at dksX57_readSo_0 13 rfl rfl)
theorem dX57_readSo_16 : decode cX57_readSo 16 = .ok (.iload_n 2, 1) := dk_28 (dk_at dksX57_readSo_0 16 rfl rfl)
theorem dX57_readSo_17 : decode cX57_readSo 17 = .ok (.bipush 6, 2) := dk_16 6 (dk_at dksX57_readSo_0 17 rfl rfl)
theorem dX57_readSo_19 : decode cX57_readSo 19 = .ok (.isub, 1) := dk_100 (dk_at dksX57_readSo_0 19 rfl rfl)
theorem dX57_readSo_20 : decode cX57_readSo 20 = .ok (.iconst 4, 1) := dk_7 (dk_at dksX57_readSo_0 20 rfl rfl)
theorem dX57_readSo_21 : decode cX57_readSo 21 = .ok (.irem, 1) := dk_112 (dk_at dksX57_readSo_0 21 rfl rfl)
theorem dX57_readSo_22 : decode cX57_readSo 22 = .ok (.ifCond .eq 5, 3) := dk_153 0 5 (dk_at dksX57_readSo_1 0 rfl rfl)
theorem dX57_readSo_25 : decode cX57_readSo 25 = .ok (.iconst 0, 1) := dk_3 (dk_at dksX57_readSo_1 3 rfl rfl)
theorem dX57_readSo_26 : decode cX57_readSo 26 = .ok (.ireturn, 1) := dk_172 (dk_at dksX57_readSo_1 4 rfl rfl)
theorem dX57_readSo_27 : decode cX57_readSo 27 = .ok (.aload_n 0, 1) := dk_42 (dk_at dksX57_readSo_1 5 rfl rfl)
theorem dX57_readSo_28 : decode cX57_readSo 28 = .ok (.iconst 0, 1) := dk_3 (dk_at dksX57_readSo_1 6 rfl rfl)
theorem dX57_readSo_29 : decode cX57_readSo 29 = .ok (.iload_n 1, 1) := dk_27 (dk_at dksX57_readSo_1 7 rfl rfl)
theorem dX57_readSo_30 : decode cX57_readSo 30 = .ok (.invokevirtual 97, 3) := dk_182 0 97 (dk_at dksX57_readSo_1 8 rfl rfl)
theorem dX57_readSo_33 : decode cX57_readSo 33 = .ok (.aload_n 0, 1) := dk_42 (dk_at dksX57_readSo_1 11 rfl rfl)
theorem dX57_readSo_34 : decode cX57_readSo 34 = .ok (.iconst 1, 1) := dk_4 (dk_at dksX57_readSo_1 12 rfl rfl)
theorem dX57_readSo_35 : decode cX57_readSo 35 = .ok (.iload_n 1, 1) := dk_27 (dk_at dksX57_readSo_1 13 rfl rfl)
theorem dX57_readSo_36 : decode cX57_readSo 36 = .ok (.invokevirtual 97, 3) := dk_182 0 97 (dk_at dksX57_readSo_1 14 rfl rfl)
theorem dX57_readSo_39 : decode cX57_readSo 39 = .ok (.if_icmp .ne 60, 3) := dk_160 0 60 (dk_at dksX57_readSo_1 17 rfl rfl)
theorem dX57_readSo_42 : decode cX57_readSo 42 = .ok (.aload_n 0, 1) := dk_42 (dk_at dksX57_readSo_1 20 rfl rfl)
theorem dX57_readSo_43 : decode cX57_readSo 43 = .ok (.iconst 1, 1) := dk_4 (dk_at dksX57_readSo_1 21 rfl rfl)
theorem dX57_readSo_44 : decode cX57_readSo 44 = .ok (.iload_n 1, 1) := dk_27 (dk_at dksX57_readSo_1 22 rfl rfl)
theorem dX57_readSo_45 : decode cX57_readSo 45 = .ok (.invokevirtual 97, 3) := dk_182 0 97 (dk_at dksX57_readSo_2 0 rfl rfl)
theorem dX57_readSo_48 : decode cX57_readSo 48 = .ok (.aload_n 0, 1) := dk_42 (dk_at dksX57_readSo_2 3 rfl rfl)
theorem dX57_readSo_49 : decode cX57_readSo 49 = .ok (.iconst 2, 1) := dk_5 (dk_at dksX57_readSo_2 4 rfl rfl)
theorem dX57_readSo_50 : decode cX57_readSo 50 = .ok (.iload_n 1, 1) := dk_27 (dk_at dksX57_readSo_2 5 rfl rfl)
theorem dX57_readSo_51 : decode cX57_readSo 51 = .ok (.invokevirtual 97, 3) := dk_182 0 97 (dk_at dksX57_readSo_2 6 rfl rfl)
theorem dX57_readSo_54 : decode cX57_readSo 54 = .ok (.if_icmp .ne 45, 3) := dk_160 0 45 (dk_at dksX57_readSo_2 9 rfl rfl)
theorem dX57_readSo_57 : decode cX57_readSo 57 = .ok (.aload_n 0, 1) := dk_42 (dk_at dksX57_readSo_2 12 rfl rfl)
theorem dX57_readSo_58 : decode cX57_readSo 58 = .ok (.iload_n 2, 1) := dk_28 (dk_at dksX57_readSo_2 13 rfl rfl)
theorem dX57_readSo_59 : decode cX57_readSo 59 = .ok (.iconst 1, 1) := dk_4 (dk_at dksX57_readSo_2 14 rfl rfl)
theorem dX57_readSo_60 : decode cX57_readSo 60 = .ok (.isub, 1) := dk_100 (dk_at dksX57_readSo_2 15 rfl rfl)
theorem dX57_readSo_61 : decode cX57_readSo 61 = .ok (.iload_n 1, 1) := dk_27 (dk_at dksX57_readSo_2 16 rfl rfl)
theorem dX57_readSo_62 : decode cX57_readSo 62 = .ok (.invokevirtual 97, 3) := dk_182 0 97 (dk_at dksX57_readSo_2 17 rfl rfl)
theorem dX57_readSo_65 : decode cX57_readSo 65 = .ok (.aload_n 0, 1) := dk_42 (dk_at dksX57_readSo_2 20 rfl rfl)
theorem dX57_readSo_66 : decode cX57_readSo 66 = .ok (.iload_n 2, 1) := dk_28 (dk_at dksX57_readSo_2 21 rfl rfl)
theorem dX57_readSo_67 : decode cX57_readSo 67 = .ok (.iconst 2, 1) := dk_5 (dk_at dksX57_readSo_2 22 rfl rfl)
theorem dX57_readSo_68 : decode cX57_readSo 68 = .ok (.isub, 1) := dk_100 (dk_at dksX57_readSo_2 23 rfl rfl)
theorem dX57_readSo_69 : decode cX57_readSo 69 = .ok (.iload_n 1, 1) := dk_27 (dk_at dksX57_readSo_3 0 rfl rfl)
theorem dX57_readSo_70 : decode cX57_readSo 70 = .ok (.invokevirtual 97, 3) := dk_182 0 97 (dk_at dksX57_readSo_3 1 rfl rfl)
theorem dX57_readSo_73 : decode cX57_readSo 73 = .ok (.if_icmp .ne 26, 3) := dk_160 0 26 (dk_at dksX57_readSo_3 4 rfl rfl)
theorem dX57_readSo_76 : decode cX57_readSo 76 = .ok (.aload_n 0, 1) := dk_42 (dk_at dksX57_readSo_3 7 rfl rfl)
theorem dX57_readSo_77 : decode cX57_readSo 77 = .ok (.iload_n 2, 1) := dk_28 (dk_at dksX57_readSo_3 8 rfl rfl)
theorem dX57_readSo_78 : decode cX57_readSo 78 = .ok (.iconst 2, 1) := dk_5 (dk_at dksX57_readSo_3 9 rfl rfl)
theorem dX57_readSo_79 : decode cX57_readSo 79 = .ok (.isub, 1) := dk_100 (dk_at dksX57_readSo_3 10 rfl rfl)
theorem dX57_readSo_80 : decode cX57_readSo 80 = .ok (.iload_n 1, 1) := dk_27 (dk_at dksX57_readSo_3 11 rfl rfl)
theorem dX57_readSo_81 : decode cX57_readSo 81 = .ok (.invokevirtual 97, 3) := dk_182 0 97 (dk_at dksX57_readSo_3 12 rfl rfl)
theorem dX57_readSo_84 : decode cX57_readSo 84 = .ok (.aload_n 0, 1) := dk_42 (dk_at dksX57_readSo_3 15 rfl rfl)
theorem dX57_readSo_85 : decode cX57_readSo 85 = .ok (.iload_n 2, 1) := dk_28 (dk_at dksX57_readSo_3 16 rfl rfl)
theorem dX57_readSo_86 : decode cX57_readSo 86 = .ok (.iconst 3, 1) := dk_6 (dk_at dksX57_readSo_3 17 rfl rfl)
theorem dX57_readSo_87 : decode cX57_readSo 87 = .ok (.isub, 1) := dk_100 (dk_at dksX57_readSo_3 18 rfl rfl)
theorem dX57_readSo_88 : decode cX57_readSo 88 = .ok (.iload_n 1, 1) := dk_27 (dk_at dksX57_readSo_3 19 rfl rfl)
theorem dX57_readSo_89 : decode cX57_readSo 89 = .ok (.invokevirtual 97, 3) := dk_182 0 97 (dk_at dksX57_readSo_3 20 rfl rfl)
theorem dX57_readSo_92 : decode cX57_readSo 92 = .ok (.if_icmp .ne 7, 3) := dk_160 0 7 (dk_at dksX57_readSo_4 0 rfl rfl)
theorem dX57_readSo_95 : decode cX57_readSo 95 = .ok (.iconst 1, 1) := dk_4 (dk_at dksX57_readSo_4 3 rfl rfl)
theorem dX57_readSo_96 : decode cX57_readSo 96 = .ok (.goto 4, 3) := dk_167 0 4 (dk_at dksX57_readSo_4 4 rfl rfl)
theorem dX57_readSo_99 : decode cX57_readSo 99 = .ok (.iconst 0, 1) := dk_3 (dk_at dksX57_readSo_4 7 rfl rfl)
theorem dX57_readSo_100 : decode cX57_readSo 100 = .ok (.istore_n 3, 1) := dk_62 (dk_at dksX57_readSo_4 8 rfl rfl)
theorem dX57_readSo_101 : decode cX57_readSo 101 = .ok (.iload_n 2, 1) := dk_28 (dk_at dksX57_readSo_4 9 rfl rfl)
theorem dX57_readSo_102 : decode cX57_readSo 102 = .ok (.bipush 6, 2) := dk_16 6 (dk_at dksX57_readSo_4 10 rfl rfl)
theorem dX57_readSo_104 : decode cX57_readSo 104 = .ok (.isub, 1) := dk_100 (dk_at dksX57_readSo_4 12 rfl rfl)
theorem dX57_readSo_105 : decode cX57_readSo 105 = .ok (.iconst 4, 1) := dk_7 (dk_at dksX57_readSo_4 13 rfl rfl)
theorem dX57_readSo_106 : decode cX57_readSo 106 = .ok (.idiv, 1) := dk_108 (dk_at dksX57_readSo_4 14 rfl rfl)
theorem dX57_readSo_107 : decode cX57_readSo 107 = .ok (.istore 4, 2) := dk_54 4 (dk_at dksX57_readSo_4 15 rfl rfl)
theorem dX57_readSo_109 : decode cX57_readSo 109 = .ok (.iconst 0, 1) := dk_3 (dk_at dksX57_readSo_4 17 rfl rfl)
theorem dX57_readSo_110 : decode cX57_readSo 110 = .ok (.istore 5, 2) := dk_54 5 (dk_at dksX57_readSo_4 18 rfl rfl)
theorem dX57_readSo_112 : decode cX57_readSo 112 = .ok (.iload 5, 2) := dk_21 5 (dk_at dksX57_readSo_4 20 rfl rfl)
theorem dX57_readSo_114 : decode cX57_readSo 114 = .ok (.iload 4, 2) := dk_21 4 (dk_at dksX57_readSo_4 22 rfl rfl)
theorem dX57_readSo_116 : decode cX57_readSo 116 = .ok (.if_icmp .ge 47, 3) := dk_162 0 47 (dk_at dksX57_readSo_5 0 rfl rfl)
theorem dX57_readSo_119 : decode cX57_readSo 119 = .ok (.iload_n 3, 1) := dk_29 (dk_at dksX57_readSo_5 3 rfl rfl)
theorem dX57_readSo_120 : decode cX57_readSo 120 = .ok (.ifCond .eq 43, 3) := dk_153 0 43 (dk_at dksX57_readSo_5 4 rfl rfl)
theorem dX57_readSo_123 : decode cX57_readSo 123 = .ok (.aload_n 0, 1) := dk_42 (dk_at dksX57_readSo_5 7 rfl rfl)
theorem dX57_readSo_124 : decode cX57_readSo 124 = .ok (.getfield 13, 3) := dk_180 0 13 (dk_at dksX57_readSo_5 8 rfl rfl)
theorem dX57_readSo_127 : decode cX57_readSo 127 = .ok (.iload 5, 2) := dk_21 5 (dk_at dksX57_readSo_5 11 rfl rfl)
theorem dX57_readSo_129 : decode cX57_readSo 129 = .ok (.aload_n 0, 1) := dk_42 (dk_at dksX57_readSo_5 13 rfl rfl)
theorem dX57_readSo_130 : decode cX57_readSo 130 = .ok (.iconst 3, 1) := dk_6 (dk_at dksX57_readSo_5 14 rfl rfl)
theorem dX57_readSo_131 : decode cX57_readSo 131 = .ok (.iconst 4, 1) := dk_7 (dk_at dksX57_readSo_5 15 rfl rfl)
theorem dX57_readSo_132 : decode cX57_readSo 132 = .ok (.iload 5, 2) := dk_21 5 (dk_at dksX57_readSo_5 16 rfl rfl)
theorem dX57_readSo_134 : decode cX57_readSo 134 = .ok (.imul, 1) := dk_104 (dk_at dksX57_readSo_5 18 rfl rfl)
theorem dX57_readSo_135 : decode cX57_readSo 135 = .ok (.iadd, 1) := dk_96 (dk_at dksX57_readSo_5 19 rfl rfl)
theorem dX57_readSo_136 : decode cX57_readSo 136 = .ok (.iload_n 1, 1) := dk_27 (dk_at dksX57_readSo_5 20 rfl rfl)
theorem dX57_readSo_137 : decode cX57_readSo 137 = .ok (.invokevirtual 108, 3) := dk_182 0 108 (dk_at dksX57_readSo_5 21 rfl rfl)
theorem dX57_readSo_140 : decode cX57_readSo 140 = .ok (.iastore, 1) := dk_79 (dk_at dksX57_readSo_6 0 rfl rfl)
theorem dX57_readSo_141 : decode cX57_readSo 141 = .ok (.aload_n 0, 1) := dk_42 (dk_at dksX57_readSo_6 1 rfl rfl)
theorem dX57_readSo_142 : decode cX57_readSo 142 = .ok (.getfield 13, 3) := dk_180 0 13 (dk_at dksX57_readSo_6 2 rfl rfl)
theorem dX57_readSo_145 : decode cX57_readSo 145 = .ok (.iload 5, 2) := dk_21 5 (dk_at dksX57_readSo_6 5 rfl rfl)
theorem dX57_readSo_147 : decode cX57_readSo 147 = .ok (.iaload, 1) := dk_46 (dk_at dksX57_readSo_6 7 rfl rfl)
theorem dX57_readSo_148 : decode cX57_readSo 148 = .ok (.ifCond .lt 7, 3) := dk_155 0 7 (dk_at dksX57_readSo_6 8 rfl rfl)
theorem dX57_readSo_151 : decode cX57_readSo 151 = .ok (.iconst 1, 1) := dk_4 (dk_at dksX57_readSo_6 11 rfl rfl)
theorem dX57_readSo_152 : decode cX57_readSo 152 = .ok (.goto 4, 3) := dk_167 0 4 (dk_at dksX57_readSo_6 12 rfl rfl)
theorem dX57_readSo_155 : decode cX57_readSo 155 = .ok (.iconst 0, 1) := dk_3 (dk_at dksX57_readSo_6 15 rfl rfl)
theorem dX57_readSo_156 : decode cX57_readSo 156 = .ok (.istore_n 3, 1) := dk_62 (dk_at dksX57_readSo_6 16 rfl rfl)
theorem dX57_readSo_157 : decode cX57_readSo 157 = .ok (.iinc 5 1, 3) := dk_132 5 1 (dk_at dksX57_readSo_6 17 rfl rfl)
theorem dX57_readSo_160 : decode cX57_readSo 160 = .ok (.goto (-48), 3) := dk_167 255 208 (dk_at dksX57_readSo_6 20 rfl rfl)
theorem dX57_readSo_163 : decode cX57_readSo 163 = .ok (.aload_n 0, 1) := dk_42 (dk_at dksX57_readSo_6 23 rfl rfl)
theorem dX57_readSo_164 : decode cX57_readSo 164 = .ok (.iload_n 3, 1) := dk_29 (dk_at dksX57_readSo_7 0 rfl rfl)
theorem dX57_readSo_165 : decode cX57_readSo 165 = .ok (.ifCond .eq 8, 3) := dk_153 0 8 (dk_at dksX57_readSo_7 1 rfl rfl)
theorem dX57_readSo_168 : decode cX57_readSo 168 = .ok (.iload 4, 2) := dk_21 4 (dk_at dksX57_readSo_7 4 rfl rfl)
theorem dX57_readSo_170 : decode cX57_readSo 170 = .ok (.goto 4, 3) := dk_167 0 4 (dk_at dksX57_readSo_7 6 rfl rfl)
theorem dX57_readSo_173 : decode cX57_readSo 173 = .ok (.iconst 0, 1) := dk_3 (dk_at dksX57_readSo_7 9 rfl rfl)
theorem dX57_readSo_174 : decode cX57_readSo 174 = .ok (.putfield 105, 3) := dk_181 0 105 (dk_at dksX57_readSo_7 10 rfl rfl)
theorem dX57_readSo_177 : decode cX57_readSo 177 = .ok (.iload_n 3, 1) := dk_29 (dk_at dksX57_readSo_7 13 rfl rfl)
theorem dX57_readSo_178 : decode cX57_readSo 178 = .ok (.ireturn, 1) := dk_172 (dk_at dksX57_readSo_7 14 rfl rfl)
abbrev cX57_size : ByteArray := prog_59_method_5_code
def yX57_size : MethodName := ⟨RX57, "size", "()I"⟩
def dkwX57_size_1 : List UInt8 := [172]
abbrev dktX57_size_1 : List UInt8 := dkwX57_size_1 ++ []
def dkwX57_size_0 : List UInt8 := [3, 60, 27, 16, 64, 162, 0, 18, 42, 180, 0, 7, 27, 46, 158, 0, 9, 132, 1, 1, 167, 255, 238, 27]
abbrev dktX57_size_0 : List UInt8 := dkwX57_size_0 ++ dktX57_size_1
theorem dksX57_size_0 : cX57_size.data.toList.drop 0 = dktX57_size_0 := by decide +kernel
theorem dksX57_size_1 : cX57_size.data.toList.drop 24 = dktX57_size_1 := dk_seg dksX57_size_0 24 rfl rfl
theorem dX57_size_0 : decode cX57_size 0 = .ok (.iconst 0, 1) := dk_3 (dk_at dksX57_size_0 0 rfl rfl)
theorem dX57_size_1 : decode cX57_size 1 = .ok (.istore_n 1, 1) := dk_60 (dk_at dksX57_size_0 1 rfl rfl)
theorem dX57_size_2 : decode cX57_size 2 = .ok (.iload_n 1, 1) := dk_27 (dk_at dksX57_size_0 2 rfl rfl)
theorem dX57_size_3 : decode cX57_size 3 = .ok (.bipush 64, 2) := dk_16 64 (dk_at dksX57_size_0 3 rfl rfl)
theorem dX57_size_5 : decode cX57_size 5 = .ok (.if_icmp .ge 18, 3) := dk_162 0 18 (dk_at dksX57_size_0 5 rfl rfl)
theorem dX57_size_8 : decode cX57_size 8 = .ok (.aload_n 0, 1) := dk_42 (dk_at dksX57_size_0 8 rfl rfl)
theorem dX57_size_9 : decode cX57_size 9 = .ok (.getfield 7, 3) := dk_180 0 7 (dk_at dksX57_size_0 9 rfl rfl)
theorem dX57_size_12 : decode cX57_size 12 = .ok (.iload_n 1, 1) := dk_27 (dk_at dksX57_size_0 12 rfl rfl)
theorem dX57_size_13 : decode cX57_size 13 = .ok (.iaload, 1) := dk_46 (dk_at dksX57_size_0 13 rfl rfl)
theorem dX57_size_14 : decode cX57_size 14 = .ok (.ifCond .le 9, 3) := dk_158 0 9 (dk_at dksX57_size_0 14 rfl rfl)
theorem dX57_size_17 : decode cX57_size 17 = .ok (.iinc 1 1, 3) := dk_132 1 1 (dk_at dksX57_size_0 17 rfl rfl)
theorem dX57_size_20 : decode cX57_size 20 = .ok (.goto (-18), 3) := dk_167 255 238 (dk_at dksX57_size_0 20 rfl rfl)
theorem dX57_size_23 : decode cX57_size 23 = .ok (.iload_n 1, 1) := dk_27 (dk_at dksX57_size_0 23 rfl rfl)
theorem dX57_size_24 : decode cX57_size 24 = .ok (.ireturn, 1) := dk_172 (dk_at dksX57_size_1 0 rfl rfl)
abbrev cX57_at : ByteArray := prog_59_method_6_code
def yX57_at : MethodName := ⟨RX57, "at", "(IZ)I"⟩
def dkwX57_at_0 : List UInt8 := [42, 180, 0, 7, 28, 153, 0, 14, 42, 182, 0, 93, 4, 100, 27, 100, 167, 0, 4, 27, 46, 172]
abbrev dktX57_at_0 : List UInt8 := dkwX57_at_0 ++ []
theorem dksX57_at_0 : cX57_at.data.toList.drop 0 = dktX57_at_0 := by decide +kernel
theorem dX57_at_0 : decode cX57_at 0 = .ok (.aload_n 0, 1) := dk_42 (dk_at dksX57_at_0 0 rfl rfl)
theorem dX57_at_1 : decode cX57_at 1 = .ok (.getfield 7, 3) := dk_180 0 7 (dk_at dksX57_at_0 1 rfl rfl)
theorem dX57_at_4 : decode cX57_at 4 = .ok (.iload_n 2, 1) := dk_28 (dk_at dksX57_at_0 4 rfl rfl)
theorem dX57_at_5 : decode cX57_at 5 = .ok (.ifCond .eq 14, 3) := dk_153 0 14 (dk_at dksX57_at_0 5 rfl rfl)
theorem dX57_at_8 : decode cX57_at 8 = .ok (.aload_n 0, 1) := dk_42 (dk_at dksX57_at_0 8 rfl rfl)
theorem dX57_at_9 : decode cX57_at 9 = .ok (.invokevirtual 93, 3) := dk_182 0 93 (dk_at dksX57_at_0 9 rfl rfl)
theorem dX57_at_12 : decode cX57_at 12 = .ok (.iconst 1, 1) := dk_4 (dk_at dksX57_at_0 12 rfl rfl)
theorem dX57_at_13 : decode cX57_at 13 = .ok (.isub, 1) := dk_100 (dk_at dksX57_at_0 13 rfl rfl)
theorem dX57_at_14 : decode cX57_at 14 = .ok (.iload_n 1, 1) := dk_27 (dk_at dksX57_at_0 14 rfl rfl)
theorem dX57_at_15 : decode cX57_at 15 = .ok (.isub, 1) := dk_100 (dk_at dksX57_at_0 15 rfl rfl)
theorem dX57_at_16 : decode cX57_at 16 = .ok (.goto 4, 3) := dk_167 0 4 (dk_at dksX57_at_0 16 rfl rfl)
theorem dX57_at_19 : decode cX57_at 19 = .ok (.iload_n 1, 1) := dk_27 (dk_at dksX57_at_0 19 rfl rfl)
theorem dX57_at_20 : decode cX57_at 20 = .ok (.iaload, 1) := dk_46 (dk_at dksX57_at_0 20 rfl rfl)
theorem dX57_at_21 : decode cX57_at 21 = .ok (.ireturn, 1) := dk_172 (dk_at dksX57_at_0 21 rfl rfl)
abbrev cX57_digitAt : ByteArray := prog_59_method_8_code
def yX57_digitAt : MethodName := ⟨RX57, "digitAt", "(IZ)I"⟩
def dkwX57_digitAt_5 : List UInt8 := [21, 4, 172]
abbrev dktX57_digitAt_5 : List UInt8 := dkwX57_digitAt_5 ++ []
def dkwX57_digitAt_4 : List UInt8 := [167, 255, 211, 21, 6, 153, 0, 8, 21, 5, 167, 0, 5, 21, 4, 54, 4, 132, 5, 1, 167, 255, 178]
abbrev dktX57_digitAt_4 : List UInt8 := dkwX57_digitAt_4 ++ dktX57_digitAt_5
def dkwX57_digitAt_3 : List UInt8 := [104, 29, 21, 5, 21, 7, 184, 0, 101, 104, 160, 0, 7, 4, 167, 0, 4, 3, 54, 6, 132, 7, 1]
abbrev dktX57_digitAt_3 : List UInt8 := dkwX57_digitAt_3 ++ dktX57_digitAt_4
def dkwX57_digitAt_2 : List UInt8 := [54, 7, 21, 7, 7, 162, 0, 45, 21, 6, 153, 0, 31, 16, 7, 42, 27, 21, 7, 96, 28, 182, 0, 97]
abbrev dktX57_digitAt_2 : List UInt8 := dkwX57_digitAt_2 ++ dktX57_digitAt_3
def dkwX57_digitAt_1 : List UInt8 := [132, 4, 1, 167, 255, 235, 2, 54, 4, 3, 54, 5, 21, 5, 16, 10, 162, 0, 77, 4, 54, 6, 3]
abbrev dktX57_digitAt_1 : List UInt8 := dkwX57_digitAt_1 ++ dktX57_digitAt_2
def dkwX57_digitAt_0 : List UInt8 := [3, 62, 3, 54, 4, 21, 4, 7, 162, 0, 21, 29, 42, 27, 21, 4, 96, 28, 182, 0, 97, 96, 62]
abbrev dktX57_digitAt_0 : List UInt8 := dkwX57_digitAt_0 ++ dktX57_digitAt_1
theorem dksX57_digitAt_0 : cX57_digitAt.data.toList.drop 0 = dktX57_digitAt_0 := by decide +kernel
theorem dksX57_digitAt_1 : cX57_digitAt.data.toList.drop 23 = dktX57_digitAt_1 := dk_seg dksX57_digitAt_0 23 rfl rfl
theorem dksX57_digitAt_2 : cX57_digitAt.data.toList.drop 46 = dktX57_digitAt_2 := dk_seg dksX57_digitAt_1 23 rfl rfl
theorem dksX57_digitAt_3 : cX57_digitAt.data.toList.drop 70 = dktX57_digitAt_3 := dk_seg dksX57_digitAt_2 24 rfl rfl
theorem dksX57_digitAt_4 : cX57_digitAt.data.toList.drop 93 = dktX57_digitAt_4 := dk_seg dksX57_digitAt_3 23 rfl rfl
theorem dksX57_digitAt_5 : cX57_digitAt.data.toList.drop 116 = dktX57_digitAt_5 := dk_seg dksX57_digitAt_4 23 rfl rfl
theorem dX57_digitAt_0 : decode cX57_digitAt 0 = .ok (.iconst 0, 1) := dk_3 (dk_at dksX57_digitAt_0 0 rfl rfl)
theorem dX57_digitAt_1 : decode cX57_digitAt 1 = .ok (.istore_n 3, 1) := dk_62 (dk_at dksX57_digitAt_0 1 rfl rfl)
theorem dX57_digitAt_2 : decode cX57_digitAt 2 = .ok (.iconst 0, 1) := dk_3 (dk_at dksX57_digitAt_0 2 rfl rfl)
theorem dX57_digitAt_3 : decode cX57_digitAt 3 = .ok (.istore 4, 2) := dk_54 4 (dk_at dksX57_digitAt_0 3 rfl rfl)
theorem dX57_digitAt_5 : decode cX57_digitAt 5 = .ok (.iload 4, 2) := dk_21 4 (dk_at dksX57_digitAt_0 5 rfl rfl)
theorem dX57_digitAt_7 : decode cX57_digitAt 7 = .ok (.iconst 4, 1) := dk_7 (dk_at dksX57_digitAt_0 7 rfl rfl)
theorem dX57_digitAt_8 : decode cX57_digitAt 8 = .ok (.if_icmp .ge 21, 3) := dk_162 0 21 (dk_at dksX57_digitAt_0 8 rfl rfl)
theorem dX57_digitAt_11 : decode cX57_digitAt 11 = .ok (.iload_n 3, 1) := dk_29 (dk_at dksX57_digitAt_0 11 rfl rfl)
theorem dX57_digitAt_12 : decode cX57_digitAt 12 = .ok (.aload_n 0, 1) := dk_42 (dk_at dksX57_digitAt_0 12 rfl rfl)
theorem dX57_digitAt_13 : decode cX57_digitAt 13 = .ok (.iload_n 1, 1) := dk_27 (dk_at dksX57_digitAt_0 13 rfl rfl)
theorem dX57_digitAt_14 : decode cX57_digitAt 14 = .ok (.iload 4, 2) := dk_21 4 (dk_at dksX57_digitAt_0 14 rfl rfl)
theorem dX57_digitAt_16 : decode cX57_digitAt 16 = .ok (.iadd, 1) := dk_96 (dk_at dksX57_digitAt_0 16 rfl rfl)
theorem dX57_digitAt_17 : decode cX57_digitAt 17 = .ok (.iload_n 2, 1) := dk_28 (dk_at dksX57_digitAt_0 17 rfl rfl)
theorem dX57_digitAt_18 : decode cX57_digitAt 18 = .ok (.invokevirtual 97, 3) := dk_182 0 97 (dk_at dksX57_digitAt_0 18 rfl rfl)
theorem dX57_digitAt_21 : decode cX57_digitAt 21 = .ok (.iadd, 1) := dk_96 (dk_at dksX57_digitAt_0 21 rfl rfl)
theorem dX57_digitAt_22 : decode cX57_digitAt 22 = .ok (.istore_n 3, 1) := dk_62 (dk_at dksX57_digitAt_0 22 rfl rfl)
theorem dX57_digitAt_23 : decode cX57_digitAt 23 = .ok (.iinc 4 1, 3) := dk_132 4 1 (dk_at dksX57_digitAt_1 0 rfl rfl)
theorem dX57_digitAt_26 : decode cX57_digitAt 26 = .ok (.goto (-21), 3) := dk_167 255 235 (dk_at dksX57_digitAt_1 3 rfl rfl)
theorem dX57_digitAt_29 : decode cX57_digitAt 29 = .ok (.iconst (-1), 1) := dk_2 (dk_at dksX57_digitAt_1 6 rfl rfl)
theorem dX57_digitAt_30 : decode cX57_digitAt 30 = .ok (.istore 4, 2) := dk_54 4 (dk_at dksX57_digitAt_1 7 rfl rfl)
theorem dX57_digitAt_32 : decode cX57_digitAt 32 = .ok (.iconst 0, 1) := dk_3 (dk_at dksX57_digitAt_1 9 rfl rfl)
theorem dX57_digitAt_33 : decode cX57_digitAt 33 = .ok (.istore 5, 2) := dk_54 5 (dk_at dksX57_digitAt_1 10 rfl rfl)
theorem dX57_digitAt_35 : decode cX57_digitAt 35 = .ok (.iload 5, 2) := dk_21 5 (dk_at dksX57_digitAt_1 12 rfl rfl)
theorem dX57_digitAt_37 : decode cX57_digitAt 37 = .ok (.bipush 10, 2) := dk_16 10 (dk_at dksX57_digitAt_1 14 rfl rfl)
theorem dX57_digitAt_39 : decode cX57_digitAt 39 = .ok (.if_icmp .ge 77, 3) := dk_162 0 77 (dk_at dksX57_digitAt_1 16 rfl rfl)
theorem dX57_digitAt_42 : decode cX57_digitAt 42 = .ok (.iconst 1, 1) := dk_4 (dk_at dksX57_digitAt_1 19 rfl rfl)
theorem dX57_digitAt_43 : decode cX57_digitAt 43 = .ok (.istore 6, 2) := dk_54 6 (dk_at dksX57_digitAt_1 20 rfl rfl)
theorem dX57_digitAt_45 : decode cX57_digitAt 45 = .ok (.iconst 0, 1) := dk_3 (dk_at dksX57_digitAt_1 22 rfl rfl)
theorem dX57_digitAt_46 : decode cX57_digitAt 46 = .ok (.istore 7, 2) := dk_54 7 (dk_at dksX57_digitAt_2 0 rfl rfl)
theorem dX57_digitAt_48 : decode cX57_digitAt 48 = .ok (.iload 7, 2) := dk_21 7 (dk_at dksX57_digitAt_2 2 rfl rfl)
theorem dX57_digitAt_50 : decode cX57_digitAt 50 = .ok (.iconst 4, 1) := dk_7 (dk_at dksX57_digitAt_2 4 rfl rfl)
theorem dX57_digitAt_51 : decode cX57_digitAt 51 = .ok (.if_icmp .ge 45, 3) := dk_162 0 45 (dk_at dksX57_digitAt_2 5 rfl rfl)
theorem dX57_digitAt_54 : decode cX57_digitAt 54 = .ok (.iload 6, 2) := dk_21 6 (dk_at dksX57_digitAt_2 8 rfl rfl)
theorem dX57_digitAt_56 : decode cX57_digitAt 56 = .ok (.ifCond .eq 31, 3) := dk_153 0 31 (dk_at dksX57_digitAt_2 10 rfl rfl)
theorem dX57_digitAt_59 : decode cX57_digitAt 59 = .ok (.bipush 7, 2) := dk_16 7 (dk_at dksX57_digitAt_2 13 rfl rfl)
theorem dX57_digitAt_61 : decode cX57_digitAt 61 = .ok (.aload_n 0, 1) := dk_42 (dk_at dksX57_digitAt_2 15 rfl rfl)
theorem dX57_digitAt_62 : decode cX57_digitAt 62 = .ok (.iload_n 1, 1) := dk_27 (dk_at dksX57_digitAt_2 16 rfl rfl)
theorem dX57_digitAt_63 : decode cX57_digitAt 63 = .ok (.iload 7, 2) := dk_21 7 (dk_at dksX57_digitAt_2 17 rfl rfl)
theorem dX57_digitAt_65 : decode cX57_digitAt 65 = .ok (.iadd, 1) := dk_96 (dk_at dksX57_digitAt_2 19 rfl rfl)
theorem dX57_digitAt_66 : decode cX57_digitAt 66 = .ok (.iload_n 2, 1) := dk_28 (dk_at dksX57_digitAt_2 20 rfl rfl)
theorem dX57_digitAt_67 : decode cX57_digitAt 67 = .ok (.invokevirtual 97, 3) := dk_182 0 97 (dk_at dksX57_digitAt_2 21 rfl rfl)
theorem dX57_digitAt_70 : decode cX57_digitAt 70 = .ok (.imul, 1) := dk_104 (dk_at dksX57_digitAt_3 0 rfl rfl)
theorem dX57_digitAt_71 : decode cX57_digitAt 71 = .ok (.iload_n 3, 1) := dk_29 (dk_at dksX57_digitAt_3 1 rfl rfl)
theorem dX57_digitAt_72 : decode cX57_digitAt 72 = .ok (.iload 5, 2) := dk_21 5 (dk_at dksX57_digitAt_3 2 rfl rfl)
theorem dX57_digitAt_74 : decode cX57_digitAt 74 = .ok (.iload 7, 2) := dk_21 7 (dk_at dksX57_digitAt_3 4 rfl rfl)
theorem dX57_digitAt_76 : decode cX57_digitAt 76 = .ok (.invokestatic 101, 3) := dk_184 0 101 (dk_at dksX57_digitAt_3 6 rfl rfl)
theorem dX57_digitAt_79 : decode cX57_digitAt 79 = .ok (.imul, 1) := dk_104 (dk_at dksX57_digitAt_3 9 rfl rfl)
theorem dX57_digitAt_80 : decode cX57_digitAt 80 = .ok (.if_icmp .ne 7, 3) := dk_160 0 7 (dk_at dksX57_digitAt_3 10 rfl rfl)
theorem dX57_digitAt_83 : decode cX57_digitAt 83 = .ok (.iconst 1, 1) := dk_4 (dk_at dksX57_digitAt_3 13 rfl rfl)
theorem dX57_digitAt_84 : decode cX57_digitAt 84 = .ok (.goto 4, 3) := dk_167 0 4 (dk_at dksX57_digitAt_3 14 rfl rfl)
theorem dX57_digitAt_87 : decode cX57_digitAt 87 = .ok (.iconst 0, 1) := dk_3 (dk_at dksX57_digitAt_3 17 rfl rfl)
theorem dX57_digitAt_88 : decode cX57_digitAt 88 = .ok (.istore 6, 2) := dk_54 6 (dk_at dksX57_digitAt_3 18 rfl rfl)
theorem dX57_digitAt_90 : decode cX57_digitAt 90 = .ok (.iinc 7 1, 3) := dk_132 7 1 (dk_at dksX57_digitAt_3 20 rfl rfl)
theorem dX57_digitAt_93 : decode cX57_digitAt 93 = .ok (.goto (-45), 3) := dk_167 255 211 (dk_at dksX57_digitAt_4 0 rfl rfl)
theorem dX57_digitAt_96 : decode cX57_digitAt 96 = .ok (.iload 6, 2) := dk_21 6 (dk_at dksX57_digitAt_4 3 rfl rfl)
theorem dX57_digitAt_98 : decode cX57_digitAt 98 = .ok (.ifCond .eq 8, 3) := dk_153 0 8 (dk_at dksX57_digitAt_4 5 rfl rfl)
theorem dX57_digitAt_101 : decode cX57_digitAt 101 = .ok (.iload 5, 2) := dk_21 5 (dk_at dksX57_digitAt_4 8 rfl rfl)
theorem dX57_digitAt_103 : decode cX57_digitAt 103 = .ok (.goto 5, 3) := dk_167 0 5 (dk_at dksX57_digitAt_4 10 rfl rfl)
theorem dX57_digitAt_106 : decode cX57_digitAt 106 = .ok (.iload 4, 2) := dk_21 4 (dk_at dksX57_digitAt_4 13 rfl rfl)
theorem dX57_digitAt_108 : decode cX57_digitAt 108 = .ok (.istore 4, 2) := dk_54 4 (dk_at dksX57_digitAt_4 15 rfl rfl)
theorem dX57_digitAt_110 : decode cX57_digitAt 110 = .ok (.iinc 5 1, 3) := dk_132 5 1 (dk_at dksX57_digitAt_4 17 rfl rfl)
theorem dX57_digitAt_113 : decode cX57_digitAt 113 = .ok (.goto (-78), 3) := dk_167 255 178 (dk_at dksX57_digitAt_4 20 rfl rfl)
theorem dX57_digitAt_116 : decode cX57_digitAt 116 = .ok (.iload 4, 2) := dk_21 4 (dk_at dksX57_digitAt_5 0 rfl rfl)
theorem dX57_digitAt_118 : decode cX57_digitAt 118 = .ok (.ireturn, 1) := dk_172 (dk_at dksX57_digitAt_5 2 rfl rfl)
abbrev cX57_pattern : ByteArray := prog_59_method_7_code
def yX57_pattern : MethodName := ⟨RX57, "pattern", "(II)I"⟩
def dkwX57_pattern_5 : List UInt8 := [27, 164, 0, 14, 28, 16, 10, 108, 61, 132, 3, 255, 167, 255, 243, 28, 16, 10, 112, 172]
abbrev dktX57_pattern_5 : List UInt8 := dkwX57_pattern_5 ++ []
def dkwX57_pattern_4 : List UInt8 := [167, 0, 21, 17, 5, 32, 61, 167, 0, 14, 17, 4, 189, 61, 167, 0, 7, 17, 12, 40, 61, 6, 62, 29]
abbrev dktX57_pattern_4 : List UInt8 := dkwX57_pattern_4 ++ dktX57_pattern_5
def dkwX57_pattern_3 : List UInt8 := [61, 167, 0, 42, 17, 4, 108, 61, 167, 0, 35, 17, 4, 207, 61, 167, 0, 28, 17, 4, 90, 61]
abbrev dktX57_pattern_3 : List UInt8 := dkwX57_pattern_3 ++ dktX57_pattern_4
def dkwX57_pattern_2 : List UInt8 := [17, 12, 139, 61, 167, 0, 63, 17, 8, 173, 61, 167, 0, 56, 17, 8, 74, 61, 167, 0, 49, 17, 5, 131]
abbrev dktX57_pattern_2 : List UInt8 := dkwX57_pattern_2 ++ dktX57_pattern_3
def dkwX57_pattern_1 : List UInt8 := [170, 0, 0, 0, 112, 0, 0, 0, 0, 0, 0, 0, 8, 0, 0, 0, 49, 0, 0, 0, 56, 0, 0, 0, 63, 0, 0, 0, 70, 0, 0, 0, 77, 0, 0, 0, 84, 0, 0, 0, 91, 0, 0, 0, 98, 0, 0, 0, 105]
abbrev dktX57_pattern_1 : List UInt8 := dkwX57_pattern_1 ++ dktX57_pattern_2
def dkwX57_pattern_0 : List UInt8 := [3, 61, 26]
abbrev dktX57_pattern_0 : List UInt8 := dkwX57_pattern_0 ++ dktX57_pattern_1
theorem dksX57_pattern_0 : cX57_pattern.data.toList.drop 0 = dktX57_pattern_0 := by decide +kernel
theorem dksX57_pattern_1 : cX57_pattern.data.toList.drop 3 = dktX57_pattern_1 := dk_seg dksX57_pattern_0 3 rfl rfl
theorem dksX57_pattern_2 : cX57_pattern.data.toList.drop 52 = dktX57_pattern_2 := dk_seg dksX57_pattern_1 49 rfl rfl
theorem dksX57_pattern_3 : cX57_pattern.data.toList.drop 76 = dktX57_pattern_3 := dk_seg dksX57_pattern_2 24 rfl rfl
theorem dksX57_pattern_4 : cX57_pattern.data.toList.drop 98 = dktX57_pattern_4 := dk_seg dksX57_pattern_3 22 rfl rfl
theorem dksX57_pattern_5 : cX57_pattern.data.toList.drop 122 = dktX57_pattern_5 := dk_seg dksX57_pattern_4 24 rfl rfl
theorem dX57_pattern_0 : decode cX57_pattern 0 = .ok (.iconst 0, 1) := dk_3 (dk_at dksX57_pattern_0 0 rfl rfl)
theorem dX57_pattern_1 : decode cX57_pattern 1 = .ok (.istore_n 2, 1) := dk_61 (dk_at dksX57_pattern_0 1 rfl rfl)
theorem dX57_pattern_2 : decode cX57_pattern 2 = .ok (.iload_n 0, 1) := dk_26 (dk_at dksX57_pattern_0 2 rfl rfl)
theorem dX57_pattern_3 : decode cX57_pattern 3 = .ok (.tableswitch 112 0 8 #[49, 56, 63, 70, 77, 84, 91, 98, 105], 49) := by decide +kernel
theorem dX57_pattern_52 : decode cX57_pattern 52 = .ok (.sipush 3211, 3) := dk_17 12 139 (dk_at dksX57_pattern_2 0 rfl rfl)
theorem dX57_pattern_55 : decode cX57_pattern 55 = .ok (.istore_n 2, 1) := dk_61 (dk_at dksX57_pattern_2 3 rfl rfl)
theorem dX57_pattern_56 : decode cX57_pattern 56 = .ok (.goto 63, 3) := dk_167 0 63 (dk_at dksX57_pattern_2 4 rfl rfl)
theorem dX57_pattern_59 : decode cX57_pattern 59 = .ok (.sipush 2221, 3) := dk_17 8 173 (dk_at dksX57_pattern_2 7 rfl rfl)
theorem dX57_pattern_62 : decode cX57_pattern 62 = .ok (.istore_n 2, 1) := dk_61 (dk_at dksX57_pattern_2 10 rfl rfl)
theorem dX57_pattern_63 : decode cX57_pattern 63 = .ok (.goto 56, 3) := dk_167 0 56 (dk_at dksX57_pattern_2 11 rfl rfl)
theorem dX57_pattern_66 : decode cX57_pattern 66 = .ok (.sipush 2122, 3) := dk_17 8 74 (dk_at dksX57_pattern_2 14 rfl rfl)
theorem dX57_pattern_69 : decode cX57_pattern 69 = .ok (.istore_n 2, 1) := dk_61 (dk_at dksX57_pattern_2 17 rfl rfl)
theorem dX57_pattern_70 : decode cX57_pattern 70 = .ok (.goto 49, 3) := dk_167 0 49 (dk_at dksX57_pattern_2 18 rfl rfl)
theorem dX57_pattern_73 : decode cX57_pattern 73 = .ok (.sipush 1411, 3) := dk_17 5 131 (dk_at dksX57_pattern_2 21 rfl rfl)
theorem dX57_pattern_76 : decode cX57_pattern 76 = .ok (.istore_n 2, 1) := dk_61 (dk_at dksX57_pattern_3 0 rfl rfl)
theorem dX57_pattern_77 : decode cX57_pattern 77 = .ok (.goto 42, 3) := dk_167 0 42 (dk_at dksX57_pattern_3 1 rfl rfl)
theorem dX57_pattern_80 : decode cX57_pattern 80 = .ok (.sipush 1132, 3) := dk_17 4 108 (dk_at dksX57_pattern_3 4 rfl rfl)
theorem dX57_pattern_83 : decode cX57_pattern 83 = .ok (.istore_n 2, 1) := dk_61 (dk_at dksX57_pattern_3 7 rfl rfl)
theorem dX57_pattern_84 : decode cX57_pattern 84 = .ok (.goto 35, 3) := dk_167 0 35 (dk_at dksX57_pattern_3 8 rfl rfl)
theorem dX57_pattern_87 : decode cX57_pattern 87 = .ok (.sipush 1231, 3) := dk_17 4 207 (dk_at dksX57_pattern_3 11 rfl rfl)
theorem dX57_pattern_90 : decode cX57_pattern 90 = .ok (.istore_n 2, 1) := dk_61 (dk_at dksX57_pattern_3 14 rfl rfl)
theorem dX57_pattern_91 : decode cX57_pattern 91 = .ok (.goto 28, 3) := dk_167 0 28 (dk_at dksX57_pattern_3 15 rfl rfl)
theorem dX57_pattern_94 : decode cX57_pattern 94 = .ok (.sipush 1114, 3) := dk_17 4 90 (dk_at dksX57_pattern_3 18 rfl rfl)
theorem dX57_pattern_97 : decode cX57_pattern 97 = .ok (.istore_n 2, 1) := dk_61 (dk_at dksX57_pattern_3 21 rfl rfl)
theorem dX57_pattern_98 : decode cX57_pattern 98 = .ok (.goto 21, 3) := dk_167 0 21 (dk_at dksX57_pattern_4 0 rfl rfl)
theorem dX57_pattern_101 : decode cX57_pattern 101 = .ok (.sipush 1312, 3) := dk_17 5 32 (dk_at dksX57_pattern_4 3 rfl rfl)
theorem dX57_pattern_104 : decode cX57_pattern 104 = .ok (.istore_n 2, 1) := dk_61 (dk_at dksX57_pattern_4 6 rfl rfl)
theorem dX57_pattern_105 : decode cX57_pattern 105 = .ok (.goto 14, 3) := dk_167 0 14 (dk_at dksX57_pattern_4 7 rfl rfl)
theorem dX57_pattern_108 : decode cX57_pattern 108 = .ok (.sipush 1213, 3) := dk_17 4 189 (dk_at dksX57_pattern_4 10 rfl rfl)
theorem dX57_pattern_111 : decode cX57_pattern 111 = .ok (.istore_n 2, 1) := dk_61 (dk_at dksX57_pattern_4 13 rfl rfl)
theorem dX57_pattern_112 : decode cX57_pattern 112 = .ok (.goto 7, 3) := dk_167 0 7 (dk_at dksX57_pattern_4 14 rfl rfl)
theorem dX57_pattern_115 : decode cX57_pattern 115 = .ok (.sipush 3112, 3) := dk_17 12 40 (dk_at dksX57_pattern_4 17 rfl rfl)
theorem dX57_pattern_118 : decode cX57_pattern 118 = .ok (.istore_n 2, 1) := dk_61 (dk_at dksX57_pattern_4 20 rfl rfl)
theorem dX57_pattern_119 : decode cX57_pattern 119 = .ok (.iconst 3, 1) := dk_6 (dk_at dksX57_pattern_4 21 rfl rfl)
theorem dX57_pattern_120 : decode cX57_pattern 120 = .ok (.istore_n 3, 1) := dk_62 (dk_at dksX57_pattern_4 22 rfl rfl)
theorem dX57_pattern_121 : decode cX57_pattern 121 = .ok (.iload_n 3, 1) := dk_29 (dk_at dksX57_pattern_4 23 rfl rfl)
theorem dX57_pattern_122 : decode cX57_pattern 122 = .ok (.iload_n 1, 1) := dk_27 (dk_at dksX57_pattern_5 0 rfl rfl)
theorem dX57_pattern_123 : decode cX57_pattern 123 = .ok (.if_icmp .le 14, 3) := dk_164 0 14 (dk_at dksX57_pattern_5 1 rfl rfl)
theorem dX57_pattern_126 : decode cX57_pattern 126 = .ok (.iload_n 2, 1) := dk_28 (dk_at dksX57_pattern_5 4 rfl rfl)
theorem dX57_pattern_127 : decode cX57_pattern 127 = .ok (.bipush 10, 2) := dk_16 10 (dk_at dksX57_pattern_5 5 rfl rfl)
theorem dX57_pattern_129 : decode cX57_pattern 129 = .ok (.idiv, 1) := dk_108 (dk_at dksX57_pattern_5 7 rfl rfl)
theorem dX57_pattern_130 : decode cX57_pattern 130 = .ok (.istore_n 2, 1) := dk_61 (dk_at dksX57_pattern_5 8 rfl rfl)
theorem dX57_pattern_131 : decode cX57_pattern 131 = .ok (.iinc 3 (-1), 3) := dk_132 3 255 (dk_at dksX57_pattern_5 9 rfl rfl)
theorem dX57_pattern_134 : decode cX57_pattern 134 = .ok (.goto (-13), 3) := dk_167 255 243 (dk_at dksX57_pattern_5 12 rfl rfl)
theorem dX57_pattern_137 : decode cX57_pattern 137 = .ok (.iload_n 2, 1) := dk_28 (dk_at dksX57_pattern_5 15 rfl rfl)
theorem dX57_pattern_138 : decode cX57_pattern 138 = .ok (.bipush 10, 2) := dk_16 10 (dk_at dksX57_pattern_5 16 rfl rfl)
theorem dX57_pattern_140 : decode cX57_pattern 140 = .ok (.irem, 1) := dk_112 (dk_at dksX57_pattern_5 18 rfl rfl)
theorem dX57_pattern_141 : decode cX57_pattern 141 = .ok (.ireturn, 1) := dk_172 (dk_at dksX57_pattern_5 19 rfl rfl)
abbrev cX57_back : ByteArray := prog_59_method_11_code
def yX57_back : MethodName := ⟨RX57, "back", "()I"⟩
def dkwX57_back_1 : List UInt8 := [180, 0, 105, 167, 0, 4, 2, 172]
abbrev dktX57_back_1 : List UInt8 := dkwX57_back_1 ++ []
def dkwX57_back_0 : List UInt8 := [42, 3, 181, 0, 81, 42, 4, 182, 0, 111, 154, 0, 11, 42, 3, 182, 0, 111, 153, 0, 10, 42]
abbrev dktX57_back_0 : List UInt8 := dkwX57_back_0 ++ dktX57_back_1
theorem dksX57_back_0 : cX57_back.data.toList.drop 0 = dktX57_back_0 := by decide +kernel
theorem dksX57_back_1 : cX57_back.data.toList.drop 22 = dktX57_back_1 := dk_seg dksX57_back_0 22 rfl rfl
theorem dX57_back_0 : decode cX57_back 0 = .ok (.aload_n 0, 1) := dk_42 (dk_at dksX57_back_0 0 rfl rfl)
theorem dX57_back_1 : decode cX57_back 1 = .ok (.iconst 0, 1) := dk_3 (dk_at dksX57_back_0 1 rfl rfl)
theorem dX57_back_2 : decode cX57_back 2 = .ok (.putfield 81, 3) := dk_181 0 81 (dk_at dksX57_back_0 2 rfl rfl)
theorem dX57_back_5 : decode cX57_back 5 = .ok (.aload_n 0, 1) := dk_42 (dk_at dksX57_back_0 5 rfl rfl)
theorem dX57_back_6 : decode cX57_back 6 = .ok (.iconst 1, 1) := dk_4 (dk_at dksX57_back_0 6 rfl rfl)
theorem dX57_back_7 : decode cX57_back 7 = .ok (.invokevirtual 111, 3) := dk_182 0 111 (dk_at dksX57_back_0 7 rfl rfl)
theorem dX57_back_10 : decode cX57_back 10 = .ok (.ifCond .ne 11, 3) := dk_154 0 11 (dk_at dksX57_back_0 10 rfl rfl)
theorem dX57_back_13 : decode cX57_back 13 = .ok (.aload_n 0, 1) := dk_42 (dk_at dksX57_back_0 13 rfl rfl)
theorem dX57_back_14 : decode cX57_back 14 = .ok (.iconst 0, 1) := dk_3 (dk_at dksX57_back_0 14 rfl rfl)
theorem dX57_back_15 : decode cX57_back 15 = .ok (.invokevirtual 111, 3) := dk_182 0 111 (dk_at dksX57_back_0 15 rfl rfl)
theorem dX57_back_18 : decode cX57_back 18 = .ok (.ifCond .eq 10, 3) := dk_153 0 10 (dk_at dksX57_back_0 18 rfl rfl)
theorem dX57_back_21 : decode cX57_back 21 = .ok (.aload_n 0, 1) := dk_42 (dk_at dksX57_back_0 21 rfl rfl)
theorem dX57_back_22 : decode cX57_back 22 = .ok (.getfield 105, 3) := dk_180 0 105 (dk_at dksX57_back_1 0 rfl rfl)
theorem dX57_back_25 : decode cX57_back 25 = .ok (.goto 4, 3) := dk_167 0 4 (dk_at dksX57_back_1 3 rfl rfl)
theorem dX57_back_28 : decode cX57_back 28 = .ok (.iconst (-1), 1) := dk_2 (dk_at dksX57_back_1 6 rfl rfl)
theorem dX57_back_29 : decode cX57_back 29 = .ok (.ireturn, 1) := dk_172 (dk_at dksX57_back_1 7 rfl rfl)
abbrev cX57_digit : ByteArray := prog_59_method_12_code
def yX57_digit : MethodName := ⟨RX57, "digit", "(I)I"⟩
def dkwX57_digit_1 : List UInt8 := [180, 0, 81, 158, 0, 7, 3, 167, 0, 9, 42, 180, 0, 13, 27, 46, 172]
abbrev dktX57_digit_1 : List UInt8 := dkwX57_digit_1 ++ []
def dkwX57_digit_0 : List UInt8 := [42, 27, 155, 0, 11, 27, 42, 180, 0, 105, 161, 0, 7, 4, 167, 0, 4, 3, 181, 0, 81, 42]
abbrev dktX57_digit_0 : List UInt8 := dkwX57_digit_0 ++ dktX57_digit_1
theorem dksX57_digit_0 : cX57_digit.data.toList.drop 0 = dktX57_digit_0 := by decide +kernel
theorem dksX57_digit_1 : cX57_digit.data.toList.drop 22 = dktX57_digit_1 := dk_seg dksX57_digit_0 22 rfl rfl
theorem dX57_digit_0 : decode cX57_digit 0 = .ok (.aload_n 0, 1) := dk_42 (dk_at dksX57_digit_0 0 rfl rfl)
theorem dX57_digit_1 : decode cX57_digit 1 = .ok (.iload_n 1, 1) := dk_27 (dk_at dksX57_digit_0 1 rfl rfl)
theorem dX57_digit_2 : decode cX57_digit 2 = .ok (.ifCond .lt 11, 3) := dk_155 0 11 (dk_at dksX57_digit_0 2 rfl rfl)
theorem dX57_digit_5 : decode cX57_digit 5 = .ok (.iload_n 1, 1) := dk_27 (dk_at dksX57_digit_0 5 rfl rfl)
theorem dX57_digit_6 : decode cX57_digit 6 = .ok (.aload_n 0, 1) := dk_42 (dk_at dksX57_digit_0 6 rfl rfl)
theorem dX57_digit_7 : decode cX57_digit 7 = .ok (.getfield 105, 3) := dk_180 0 105 (dk_at dksX57_digit_0 7 rfl rfl)
theorem dX57_digit_10 : decode cX57_digit 10 = .ok (.if_icmp .lt 7, 3) := dk_161 0 7 (dk_at dksX57_digit_0 10 rfl rfl)
theorem dX57_digit_13 : decode cX57_digit 13 = .ok (.iconst 1, 1) := dk_4 (dk_at dksX57_digit_0 13 rfl rfl)
theorem dX57_digit_14 : decode cX57_digit 14 = .ok (.goto 4, 3) := dk_167 0 4 (dk_at dksX57_digit_0 14 rfl rfl)
theorem dX57_digit_17 : decode cX57_digit 17 = .ok (.iconst 0, 1) := dk_3 (dk_at dksX57_digit_0 17 rfl rfl)
theorem dX57_digit_18 : decode cX57_digit 18 = .ok (.putfield 81, 3) := dk_181 0 81 (dk_at dksX57_digit_0 18 rfl rfl)
theorem dX57_digit_21 : decode cX57_digit 21 = .ok (.aload_n 0, 1) := dk_42 (dk_at dksX57_digit_0 21 rfl rfl)
theorem dX57_digit_22 : decode cX57_digit 22 = .ok (.getfield 81, 3) := dk_180 0 81 (dk_at dksX57_digit_1 0 rfl rfl)
theorem dX57_digit_25 : decode cX57_digit 25 = .ok (.ifCond .le 7, 3) := dk_158 0 7 (dk_at dksX57_digit_1 3 rfl rfl)
theorem dX57_digit_28 : decode cX57_digit 28 = .ok (.iconst 0, 1) := dk_3 (dk_at dksX57_digit_1 6 rfl rfl)
theorem dX57_digit_29 : decode cX57_digit 29 = .ok (.goto 9, 3) := dk_167 0 9 (dk_at dksX57_digit_1 7 rfl rfl)
theorem dX57_digit_32 : decode cX57_digit 32 = .ok (.aload_n 0, 1) := dk_42 (dk_at dksX57_digit_1 10 rfl rfl)
theorem dX57_digit_33 : decode cX57_digit 33 = .ok (.getfield 13, 3) := dk_180 0 13 (dk_at dksX57_digit_1 11 rfl rfl)
theorem dX57_digit_36 : decode cX57_digit 36 = .ok (.iload_n 1, 1) := dk_27 (dk_at dksX57_digit_1 14 rfl rfl)
theorem dX57_digit_37 : decode cX57_digit 37 = .ok (.iaload, 1) := dk_46 (dk_at dksX57_digit_1 15 rfl rfl)
theorem dX57_digit_38 : decode cX57_digit 38 = .ok (.ireturn, 1) := dk_172 (dk_at dksX57_digit_1 16 rfl rfl)
abbrev cX57_check : ByteArray := prog_59_method_14_code
def yX57_check : MethodName := ⟨RX57, "check", "(IJ)I"⟩
def dkwX57_check_1 : List UInt8 := [27, 32, 184, 0, 119, 167, 0, 4, 2, 172]
abbrev dktX57_check_1 : List UInt8 := dkwX57_check_1 ++ []
def dkwX57_check_0 : List UInt8 := [42, 3, 181, 0, 81, 27, 133, 10, 184, 0, 87, 153, 0, 21, 32, 20, 0, 117, 184, 0, 87, 153, 0, 11]
abbrev dktX57_check_0 : List UInt8 := dkwX57_check_0 ++ dktX57_check_1
theorem dksX57_check_0 : cX57_check.data.toList.drop 0 = dktX57_check_0 := by decide +kernel
theorem dksX57_check_1 : cX57_check.data.toList.drop 24 = dktX57_check_1 := dk_seg dksX57_check_0 24 rfl rfl
theorem dX57_check_0 : decode cX57_check 0 = .ok (.aload_n 0, 1) := dk_42 (dk_at dksX57_check_0 0 rfl rfl)
theorem dX57_check_1 : decode cX57_check 1 = .ok (.iconst 0, 1) := dk_3 (dk_at dksX57_check_0 1 rfl rfl)
theorem dX57_check_2 : decode cX57_check 2 = .ok (.putfield 81, 3) := dk_181 0 81 (dk_at dksX57_check_0 2 rfl rfl)
theorem dX57_check_5 : decode cX57_check 5 = .ok (.iload_n 1, 1) := dk_27 (dk_at dksX57_check_0 5 rfl rfl)
theorem dX57_check_6 : decode cX57_check 6 = .ok (.i2l, 1) := dk_133 (dk_at dksX57_check_0 6 rfl rfl)
theorem dX57_check_7 : decode cX57_check 7 = .ok (.lconst 1, 1) := dk_10 (dk_at dksX57_check_0 7 rfl rfl)
theorem dX57_check_8 : decode cX57_check 8 = .ok (.invokestatic 87, 3) := dk_184 0 87 (dk_at dksX57_check_0 8 rfl rfl)
theorem dX57_check_11 : decode cX57_check 11 = .ok (.ifCond .eq 21, 3) := dk_153 0 21 (dk_at dksX57_check_0 11 rfl rfl)
theorem dX57_check_14 : decode cX57_check 14 = .ok (.lload_n 2, 1) := dk_32 (dk_at dksX57_check_0 14 rfl rfl)
theorem dX57_check_15 : decode cX57_check 15 = .ok (.ldc2_w 117, 3) := dk_20 0 117 (dk_at dksX57_check_0 15 rfl rfl)
theorem dX57_check_18 : decode cX57_check 18 = .ok (.invokestatic 87, 3) := dk_184 0 87 (dk_at dksX57_check_0 18 rfl rfl)
theorem dX57_check_21 : decode cX57_check 21 = .ok (.ifCond .eq 11, 3) := dk_153 0 11 (dk_at dksX57_check_0 21 rfl rfl)
theorem dX57_check_24 : decode cX57_check 24 = .ok (.iload_n 1, 1) := dk_27 (dk_at dksX57_check_1 0 rfl rfl)
theorem dX57_check_25 : decode cX57_check 25 = .ok (.lload_n 2, 1) := dk_32 (dk_at dksX57_check_1 1 rfl rfl)
theorem dX57_check_26 : decode cX57_check 26 = .ok (.invokestatic 119, 3) := dk_184 0 119 (dk_at dksX57_check_1 2 rfl rfl)
theorem dX57_check_29 : decode cX57_check 29 = .ok (.goto 4, 3) := dk_167 0 4 (dk_at dksX57_check_1 5 rfl rfl)
theorem dX57_check_32 : decode cX57_check 32 = .ok (.iconst (-1), 1) := dk_2 (dk_at dksX57_check_1 8 rfl rfl)
theorem dX57_check_33 : decode cX57_check 33 = .ok (.ireturn, 1) := dk_172 (dk_at dksX57_check_1 9 rfl rfl)
abbrev cX57_good : ByteArray := prog_59_method_15_code
def yX57_good : MethodName := ⟨RX57, "good", "(IJ)Z"⟩
def dkwX57_good_2 : List UInt8 := [172]
abbrev dktX57_good_2 : List UInt8 := dkwX57_good_2 ++ []
def dkwX57_good_1 : List UInt8 := [32, 20, 0, 115, 113, 27, 32, 20, 0, 115, 109, 184, 0, 119, 133, 148, 154, 0, 7, 4, 167, 0, 4, 3]
abbrev dktX57_good_1 : List UInt8 := dkwX57_good_1 ++ dktX57_good_2
def dkwX57_good_0 : List UInt8 := [42, 3, 181, 0, 81, 27, 133, 10, 184, 0, 87, 153, 0, 36, 32, 20, 0, 117, 184, 0, 87, 153, 0, 26]
abbrev dktX57_good_0 : List UInt8 := dkwX57_good_0 ++ dktX57_good_1
theorem dksX57_good_0 : cX57_good.data.toList.drop 0 = dktX57_good_0 := by decide +kernel
theorem dksX57_good_1 : cX57_good.data.toList.drop 24 = dktX57_good_1 := dk_seg dksX57_good_0 24 rfl rfl
theorem dksX57_good_2 : cX57_good.data.toList.drop 48 = dktX57_good_2 := dk_seg dksX57_good_1 24 rfl rfl
theorem dX57_good_0 : decode cX57_good 0 = .ok (.aload_n 0, 1) := dk_42 (dk_at dksX57_good_0 0 rfl rfl)
theorem dX57_good_1 : decode cX57_good 1 = .ok (.iconst 0, 1) := dk_3 (dk_at dksX57_good_0 1 rfl rfl)
theorem dX57_good_2 : decode cX57_good 2 = .ok (.putfield 81, 3) := dk_181 0 81 (dk_at dksX57_good_0 2 rfl rfl)
theorem dX57_good_5 : decode cX57_good 5 = .ok (.iload_n 1, 1) := dk_27 (dk_at dksX57_good_0 5 rfl rfl)
theorem dX57_good_6 : decode cX57_good 6 = .ok (.i2l, 1) := dk_133 (dk_at dksX57_good_0 6 rfl rfl)
theorem dX57_good_7 : decode cX57_good 7 = .ok (.lconst 1, 1) := dk_10 (dk_at dksX57_good_0 7 rfl rfl)
theorem dX57_good_8 : decode cX57_good 8 = .ok (.invokestatic 87, 3) := dk_184 0 87 (dk_at dksX57_good_0 8 rfl rfl)
theorem dX57_good_11 : decode cX57_good 11 = .ok (.ifCond .eq 36, 3) := dk_153 0 36 (dk_at dksX57_good_0 11 rfl rfl)
theorem dX57_good_14 : decode cX57_good 14 = .ok (.lload_n 2, 1) := dk_32 (dk_at dksX57_good_0 14 rfl rfl)
theorem dX57_good_15 : decode cX57_good 15 = .ok (.ldc2_w 117, 3) := dk_20 0 117 (dk_at dksX57_good_0 15 rfl rfl)
theorem dX57_good_18 : decode cX57_good 18 = .ok (.invokestatic 87, 3) := dk_184 0 87 (dk_at dksX57_good_0 18 rfl rfl)
theorem dX57_good_21 : decode cX57_good 21 = .ok (.ifCond .eq 26, 3) := dk_153 0 26 (dk_at dksX57_good_0 21 rfl rfl)
theorem dX57_good_24 : decode cX57_good 24 = .ok (.lload_n 2, 1) := dk_32 (dk_at dksX57_good_1 0 rfl rfl)
theorem dX57_good_25 : decode cX57_good 25 = .ok (.ldc2_w 115, 3) := dk_20 0 115 (dk_at dksX57_good_1 1 rfl rfl)
theorem dX57_good_28 : decode cX57_good 28 = .ok (.lrem, 1) := dk_113 (dk_at dksX57_good_1 4 rfl rfl)
theorem dX57_good_29 : decode cX57_good 29 = .ok (.iload_n 1, 1) := dk_27 (dk_at dksX57_good_1 5 rfl rfl)
theorem dX57_good_30 : decode cX57_good 30 = .ok (.lload_n 2, 1) := dk_32 (dk_at dksX57_good_1 6 rfl rfl)
theorem dX57_good_31 : decode cX57_good 31 = .ok (.ldc2_w 115, 3) := dk_20 0 115 (dk_at dksX57_good_1 7 rfl rfl)
theorem dX57_good_34 : decode cX57_good 34 = .ok (.ldiv, 1) := dk_109 (dk_at dksX57_good_1 10 rfl rfl)
theorem dX57_good_35 : decode cX57_good 35 = .ok (.invokestatic 119, 3) := dk_184 0 119 (dk_at dksX57_good_1 11 rfl rfl)
theorem dX57_good_38 : decode cX57_good 38 = .ok (.i2l, 1) := dk_133 (dk_at dksX57_good_1 14 rfl rfl)
theorem dX57_good_39 : decode cX57_good 39 = .ok (.lcmp, 1) := dk_148 (dk_at dksX57_good_1 15 rfl rfl)
theorem dX57_good_40 : decode cX57_good 40 = .ok (.ifCond .ne 7, 3) := dk_154 0 7 (dk_at dksX57_good_1 16 rfl rfl)
theorem dX57_good_43 : decode cX57_good 43 = .ok (.iconst 1, 1) := dk_4 (dk_at dksX57_good_1 19 rfl rfl)
theorem dX57_good_44 : decode cX57_good 44 = .ok (.goto 4, 3) := dk_167 0 4 (dk_at dksX57_good_1 20 rfl rfl)
theorem dX57_good_47 : decode cX57_good 47 = .ok (.iconst 0, 1) := dk_3 (dk_at dksX57_good_1 23 rfl rfl)
theorem dX57_good_48 : decode cX57_good 48 = .ok (.ireturn, 1) := dk_172 (dk_at dksX57_good_2 0 rfl rfl)
abbrev cX57_machine : ByteArray := prog_59_method_18_code
def yX57_machine : MethodName := ⟨RX57, "machine", "()I"⟩
def dkwX57_machine_1 : List UInt8 := [42, 180, 0, 131, 79, 42, 89, 180, 0, 131, 4, 96, 181, 0, 131, 42, 180, 0, 131, 4, 100, 172]
abbrev dktX57_machine_1 : List UInt8 := dkwX57_machine_1 ++ []
def dkwX57_machine_0 : List UInt8 := [42, 3, 181, 0, 81, 42, 180, 0, 131, 16, 6, 160, 0, 5, 2, 172, 42, 180, 0, 16, 42, 180, 0, 131]
abbrev dktX57_machine_0 : List UInt8 := dkwX57_machine_0 ++ dktX57_machine_1
theorem dksX57_machine_0 : cX57_machine.data.toList.drop 0 = dktX57_machine_0 := by decide +kernel
theorem dksX57_machine_1 : cX57_machine.data.toList.drop 24 = dktX57_machine_1 := dk_seg dksX57_machine_0 24 rfl rfl
theorem dX57_machine_0 : decode cX57_machine 0 = .ok (.aload_n 0, 1) := dk_42 (dk_at dksX57_machine_0 0 rfl rfl)
theorem dX57_machine_1 : decode cX57_machine 1 = .ok (.iconst 0, 1) := dk_3 (dk_at dksX57_machine_0 1 rfl rfl)
theorem dX57_machine_2 : decode cX57_machine 2 = .ok (.putfield 81, 3) := dk_181 0 81 (dk_at dksX57_machine_0 2 rfl rfl)
theorem dX57_machine_5 : decode cX57_machine 5 = .ok (.aload_n 0, 1) := dk_42 (dk_at dksX57_machine_0 5 rfl rfl)
theorem dX57_machine_6 : decode cX57_machine 6 = .ok (.getfield 131, 3) := dk_180 0 131 (dk_at dksX57_machine_0 6 rfl rfl)
theorem dX57_machine_9 : decode cX57_machine 9 = .ok (.bipush 6, 2) := dk_16 6 (dk_at dksX57_machine_0 9 rfl rfl)
theorem dX57_machine_11 : decode cX57_machine 11 = .ok (.if_icmp .ne 5, 3) := dk_160 0 5 (dk_at dksX57_machine_0 11 rfl rfl)
theorem dX57_machine_14 : decode cX57_machine 14 = .ok (.iconst (-1), 1) := dk_2 (dk_at dksX57_machine_0 14 rfl rfl)
theorem dX57_machine_15 : decode cX57_machine 15 = .ok (.ireturn, 1) := dk_172 (dk_at dksX57_machine_0 15 rfl rfl)
theorem dX57_machine_16 : decode cX57_machine 16 = .ok (.aload_n 0, 1) := dk_42 (dk_at dksX57_machine_0 16 rfl rfl)
theorem dX57_machine_17 : decode cX57_machine 17 = .ok (.getfield 16, 3) := dk_180 0 16 (dk_at dksX57_machine_0 17 rfl rfl)
theorem dX57_machine_20 : decode cX57_machine 20 = .ok (.aload_n 0, 1) := dk_42 (dk_at dksX57_machine_0 20 rfl rfl)
theorem dX57_machine_21 : decode cX57_machine 21 = .ok (.getfield 131, 3) := dk_180 0 131 (dk_at dksX57_machine_0 21 rfl rfl)
theorem dX57_machine_24 : decode cX57_machine 24 = .ok (.aload_n 0, 1) := dk_42 (dk_at dksX57_machine_1 0 rfl rfl)
theorem dX57_machine_25 : decode cX57_machine 25 = .ok (.getfield 131, 3) := dk_180 0 131 (dk_at dksX57_machine_1 1 rfl rfl)
theorem dX57_machine_28 : decode cX57_machine 28 = .ok (.iastore, 1) := dk_79 (dk_at dksX57_machine_1 4 rfl rfl)
theorem dX57_machine_29 : decode cX57_machine 29 = .ok (.aload_n 0, 1) := dk_42 (dk_at dksX57_machine_1 5 rfl rfl)
theorem dX57_machine_30 : decode cX57_machine 30 = .ok (.dup, 1) := dk_89 (dk_at dksX57_machine_1 6 rfl rfl)
theorem dX57_machine_31 : decode cX57_machine 31 = .ok (.getfield 131, 3) := dk_180 0 131 (dk_at dksX57_machine_1 7 rfl rfl)
theorem dX57_machine_34 : decode cX57_machine 34 = .ok (.iconst 1, 1) := dk_4 (dk_at dksX57_machine_1 10 rfl rfl)
theorem dX57_machine_35 : decode cX57_machine 35 = .ok (.iadd, 1) := dk_96 (dk_at dksX57_machine_1 11 rfl rfl)
theorem dX57_machine_36 : decode cX57_machine 36 = .ok (.putfield 131, 3) := dk_181 0 131 (dk_at dksX57_machine_1 12 rfl rfl)
theorem dX57_machine_39 : decode cX57_machine 39 = .ok (.aload_n 0, 1) := dk_42 (dk_at dksX57_machine_1 15 rfl rfl)
theorem dX57_machine_40 : decode cX57_machine 40 = .ok (.getfield 131, 3) := dk_180 0 131 (dk_at dksX57_machine_1 16 rfl rfl)
theorem dX57_machine_43 : decode cX57_machine 43 = .ok (.iconst 1, 1) := dk_4 (dk_at dksX57_machine_1 19 rfl rfl)
theorem dX57_machine_44 : decode cX57_machine 44 = .ok (.isub, 1) := dk_100 (dk_at dksX57_machine_1 20 rfl rfl)
theorem dX57_machine_45 : decode cX57_machine 45 = .ok (.ireturn, 1) := dk_172 (dk_at dksX57_machine_1 21 rfl rfl)
abbrev cX57_shape : ByteArray := prog_59_method_19_code
def yX57_shape : MethodName := ⟨RX57, "shape", "(III)Z"⟩
def dkwX57_shape_2 : List UInt8 := [180, 0, 26, 27, 28, 79, 42, 180, 0, 29, 27, 29, 79, 4, 172]
abbrev dktX57_shape_2 : List UInt8 := dkwX57_shape_2 ++ []
def dkwX57_shape_1 : List UInt8 := [153, 0, 19, 29, 133, 20, 0, 134, 184, 0, 87, 153, 0, 8, 28, 29, 164, 0, 5, 3, 172, 42]
abbrev dktX57_shape_1 : List UInt8 := dkwX57_shape_1 ++ dktX57_shape_2
def dkwX57_shape_0 : List UInt8 := [42, 3, 181, 0, 81, 27, 133, 20, 0, 125, 184, 0, 87, 153, 0, 30, 28, 133, 20, 0, 134, 184, 0, 87]
abbrev dktX57_shape_0 : List UInt8 := dkwX57_shape_0 ++ dktX57_shape_1
theorem dksX57_shape_0 : cX57_shape.data.toList.drop 0 = dktX57_shape_0 := by decide +kernel
theorem dksX57_shape_1 : cX57_shape.data.toList.drop 24 = dktX57_shape_1 := dk_seg dksX57_shape_0 24 rfl rfl
theorem dksX57_shape_2 : cX57_shape.data.toList.drop 46 = dktX57_shape_2 := dk_seg dksX57_shape_1 22 rfl rfl
theorem dX57_shape_0 : decode cX57_shape 0 = .ok (.aload_n 0, 1) := dk_42 (dk_at dksX57_shape_0 0 rfl rfl)
theorem dX57_shape_1 : decode cX57_shape 1 = .ok (.iconst 0, 1) := dk_3 (dk_at dksX57_shape_0 1 rfl rfl)
theorem dX57_shape_2 : decode cX57_shape 2 = .ok (.putfield 81, 3) := dk_181 0 81 (dk_at dksX57_shape_0 2 rfl rfl)
theorem dX57_shape_5 : decode cX57_shape 5 = .ok (.iload_n 1, 1) := dk_27 (dk_at dksX57_shape_0 5 rfl rfl)
theorem dX57_shape_6 : decode cX57_shape 6 = .ok (.i2l, 1) := dk_133 (dk_at dksX57_shape_0 6 rfl rfl)
theorem dX57_shape_7 : decode cX57_shape 7 = .ok (.ldc2_w 125, 3) := dk_20 0 125 (dk_at dksX57_shape_0 7 rfl rfl)
theorem dX57_shape_10 : decode cX57_shape 10 = .ok (.invokestatic 87, 3) := dk_184 0 87 (dk_at dksX57_shape_0 10 rfl rfl)
theorem dX57_shape_13 : decode cX57_shape 13 = .ok (.ifCond .eq 30, 3) := dk_153 0 30 (dk_at dksX57_shape_0 13 rfl rfl)
theorem dX57_shape_16 : decode cX57_shape 16 = .ok (.iload_n 2, 1) := dk_28 (dk_at dksX57_shape_0 16 rfl rfl)
theorem dX57_shape_17 : decode cX57_shape 17 = .ok (.i2l, 1) := dk_133 (dk_at dksX57_shape_0 17 rfl rfl)
theorem dX57_shape_18 : decode cX57_shape 18 = .ok (.ldc2_w 134, 3) := dk_20 0 134 (dk_at dksX57_shape_0 18 rfl rfl)
theorem dX57_shape_21 : decode cX57_shape 21 = .ok (.invokestatic 87, 3) := dk_184 0 87 (dk_at dksX57_shape_0 21 rfl rfl)
theorem dX57_shape_24 : decode cX57_shape 24 = .ok (.ifCond .eq 19, 3) := dk_153 0 19 (dk_at dksX57_shape_1 0 rfl rfl)
theorem dX57_shape_27 : decode cX57_shape 27 = .ok (.iload_n 3, 1) := dk_29 (dk_at dksX57_shape_1 3 rfl rfl)
theorem dX57_shape_28 : decode cX57_shape 28 = .ok (.i2l, 1) := dk_133 (dk_at dksX57_shape_1 4 rfl rfl)
theorem dX57_shape_29 : decode cX57_shape 29 = .ok (.ldc2_w 134, 3) := dk_20 0 134 (dk_at dksX57_shape_1 5 rfl rfl)
theorem dX57_shape_32 : decode cX57_shape 32 = .ok (.invokestatic 87, 3) := dk_184 0 87 (dk_at dksX57_shape_1 8 rfl rfl)
theorem dX57_shape_35 : decode cX57_shape 35 = .ok (.ifCond .eq 8, 3) := dk_153 0 8 (dk_at dksX57_shape_1 11 rfl rfl)
theorem dX57_shape_38 : decode cX57_shape 38 = .ok (.iload_n 2, 1) := dk_28 (dk_at dksX57_shape_1 14 rfl rfl)
theorem dX57_shape_39 : decode cX57_shape 39 = .ok (.iload_n 3, 1) := dk_29 (dk_at dksX57_shape_1 15 rfl rfl)
theorem dX57_shape_40 : decode cX57_shape 40 = .ok (.if_icmp .le 5, 3) := dk_164 0 5 (dk_at dksX57_shape_1 16 rfl rfl)
theorem dX57_shape_43 : decode cX57_shape 43 = .ok (.iconst 0, 1) := dk_3 (dk_at dksX57_shape_1 19 rfl rfl)
theorem dX57_shape_44 : decode cX57_shape 44 = .ok (.ireturn, 1) := dk_172 (dk_at dksX57_shape_1 20 rfl rfl)
theorem dX57_shape_45 : decode cX57_shape 45 = .ok (.aload_n 0, 1) := dk_42 (dk_at dksX57_shape_1 21 rfl rfl)
theorem dX57_shape_46 : decode cX57_shape 46 = .ok (.getfield 26, 3) := dk_180 0 26 (dk_at dksX57_shape_2 0 rfl rfl)
theorem dX57_shape_49 : decode cX57_shape 49 = .ok (.iload_n 1, 1) := dk_27 (dk_at dksX57_shape_2 3 rfl rfl)
theorem dX57_shape_50 : decode cX57_shape 50 = .ok (.iload_n 2, 1) := dk_28 (dk_at dksX57_shape_2 4 rfl rfl)
theorem dX57_shape_51 : decode cX57_shape 51 = .ok (.iastore, 1) := dk_79 (dk_at dksX57_shape_2 5 rfl rfl)
theorem dX57_shape_52 : decode cX57_shape 52 = .ok (.aload_n 0, 1) := dk_42 (dk_at dksX57_shape_2 6 rfl rfl)
theorem dX57_shape_53 : decode cX57_shape 53 = .ok (.getfield 29, 3) := dk_180 0 29 (dk_at dksX57_shape_2 7 rfl rfl)
theorem dX57_shape_56 : decode cX57_shape 56 = .ok (.iload_n 1, 1) := dk_27 (dk_at dksX57_shape_2 10 rfl rfl)
theorem dX57_shape_57 : decode cX57_shape 57 = .ok (.iload_n 3, 1) := dk_29 (dk_at dksX57_shape_2 11 rfl rfl)
theorem dX57_shape_58 : decode cX57_shape 58 = .ok (.iastore, 1) := dk_79 (dk_at dksX57_shape_2 12 rfl rfl)
theorem dX57_shape_59 : decode cX57_shape 59 = .ok (.iconst 1, 1) := dk_4 (dk_at dksX57_shape_2 13 rfl rfl)
theorem dX57_shape_60 : decode cX57_shape 60 = .ok (.ireturn, 1) := dk_172 (dk_at dksX57_shape_2 14 rfl rfl)
abbrev cX57_full : ByteArray := prog_59_method_20_code
def yX57_full : MethodName := ⟨RX57, "full", "(IZ)Z"⟩
def dkwX57_full_0 : List UInt8 := [42, 27, 182, 0, 136, 154, 0, 5, 3, 172, 42, 180, 0, 19, 27, 28, 84, 4, 172]
abbrev dktX57_full_0 : List UInt8 := dkwX57_full_0 ++ []
theorem dksX57_full_0 : cX57_full.data.toList.drop 0 = dktX57_full_0 := by decide +kernel
theorem dX57_full_0 : decode cX57_full 0 = .ok (.aload_n 0, 1) := dk_42 (dk_at dksX57_full_0 0 rfl rfl)
theorem dX57_full_1 : decode cX57_full 1 = .ok (.iload_n 1, 1) := dk_27 (dk_at dksX57_full_0 1 rfl rfl)
theorem dX57_full_2 : decode cX57_full 2 = .ok (.invokevirtual 136, 3) := dk_182 0 136 (dk_at dksX57_full_0 2 rfl rfl)
theorem dX57_full_5 : decode cX57_full 5 = .ok (.ifCond .ne 5, 3) := dk_154 0 5 (dk_at dksX57_full_0 5 rfl rfl)
theorem dX57_full_8 : decode cX57_full 8 = .ok (.iconst 0, 1) := dk_3 (dk_at dksX57_full_0 8 rfl rfl)
theorem dX57_full_9 : decode cX57_full 9 = .ok (.ireturn, 1) := dk_172 (dk_at dksX57_full_0 9 rfl rfl)
theorem dX57_full_10 : decode cX57_full 10 = .ok (.aload_n 0, 1) := dk_42 (dk_at dksX57_full_0 10 rfl rfl)
theorem dX57_full_11 : decode cX57_full 11 = .ok (.getfield 19, 3) := dk_180 0 19 (dk_at dksX57_full_0 11 rfl rfl)
theorem dX57_full_14 : decode cX57_full 14 = .ok (.iload_n 1, 1) := dk_27 (dk_at dksX57_full_0 14 rfl rfl)
theorem dX57_full_15 : decode cX57_full 15 = .ok (.iload_n 2, 1) := dk_28 (dk_at dksX57_full_0 15 rfl rfl)
theorem dX57_full_16 : decode cX57_full 16 = .ok (.bastore, 1) := dk_84 (dk_at dksX57_full_0 16 rfl rfl)
theorem dX57_full_17 : decode cX57_full 17 = .ok (.iconst 1, 1) := dk_4 (dk_at dksX57_full_0 17 rfl rfl)
theorem dX57_full_18 : decode cX57_full 18 = .ok (.ireturn, 1) := dk_172 (dk_at dksX57_full_0 18 rfl rfl)
abbrev cX57_power : ByteArray := prog_59_method_21_code
def yX57_power : MethodName := ⟨RX57, "power", "(IZ)Z"⟩
def dkwX57_power_1 : List UInt8 := [84, 4, 172]
abbrev dktX57_power_1 : List UInt8 := dkwX57_power_1 ++ []
def dkwX57_power_0 : List UInt8 := [42, 27, 182, 0, 136, 154, 0, 5, 3, 172, 42, 180, 0, 23, 27, 28, 154, 0, 7, 4, 167, 0, 4, 3]
abbrev dktX57_power_0 : List UInt8 := dkwX57_power_0 ++ dktX57_power_1
theorem dksX57_power_0 : cX57_power.data.toList.drop 0 = dktX57_power_0 := by decide +kernel
theorem dksX57_power_1 : cX57_power.data.toList.drop 24 = dktX57_power_1 := dk_seg dksX57_power_0 24 rfl rfl
theorem dX57_power_0 : decode cX57_power 0 = .ok (.aload_n 0, 1) := dk_42 (dk_at dksX57_power_0 0 rfl rfl)
theorem dX57_power_1 : decode cX57_power 1 = .ok (.iload_n 1, 1) := dk_27 (dk_at dksX57_power_0 1 rfl rfl)
theorem dX57_power_2 : decode cX57_power 2 = .ok (.invokevirtual 136, 3) := dk_182 0 136 (dk_at dksX57_power_0 2 rfl rfl)
theorem dX57_power_5 : decode cX57_power 5 = .ok (.ifCond .ne 5, 3) := dk_154 0 5 (dk_at dksX57_power_0 5 rfl rfl)
theorem dX57_power_8 : decode cX57_power 8 = .ok (.iconst 0, 1) := dk_3 (dk_at dksX57_power_0 8 rfl rfl)
theorem dX57_power_9 : decode cX57_power 9 = .ok (.ireturn, 1) := dk_172 (dk_at dksX57_power_0 9 rfl rfl)
theorem dX57_power_10 : decode cX57_power 10 = .ok (.aload_n 0, 1) := dk_42 (dk_at dksX57_power_0 10 rfl rfl)
theorem dX57_power_11 : decode cX57_power 11 = .ok (.getfield 23, 3) := dk_180 0 23 (dk_at dksX57_power_0 11 rfl rfl)
theorem dX57_power_14 : decode cX57_power 14 = .ok (.iload_n 1, 1) := dk_27 (dk_at dksX57_power_0 14 rfl rfl)
theorem dX57_power_15 : decode cX57_power 15 = .ok (.iload_n 2, 1) := dk_28 (dk_at dksX57_power_0 15 rfl rfl)
theorem dX57_power_16 : decode cX57_power 16 = .ok (.ifCond .ne 7, 3) := dk_154 0 7 (dk_at dksX57_power_0 16 rfl rfl)
theorem dX57_power_19 : decode cX57_power 19 = .ok (.iconst 1, 1) := dk_4 (dk_at dksX57_power_0 19 rfl rfl)
theorem dX57_power_20 : decode cX57_power 20 = .ok (.goto 4, 3) := dk_167 0 4 (dk_at dksX57_power_0 20 rfl rfl)
theorem dX57_power_23 : decode cX57_power 23 = .ok (.iconst 0, 1) := dk_3 (dk_at dksX57_power_0 23 rfl rfl)
theorem dX57_power_24 : decode cX57_power 24 = .ok (.bastore, 1) := dk_84 (dk_at dksX57_power_1 0 rfl rfl)
theorem dX57_power_25 : decode cX57_power 25 = .ok (.iconst 1, 1) := dk_4 (dk_at dksX57_power_1 1 rfl rfl)
theorem dX57_power_26 : decode cX57_power 26 = .ok (.ireturn, 1) := dk_172 (dk_at dksX57_power_1 2 rfl rfl)
abbrev cX57_reason : ByteArray := prog_59_method_26_code
def yX57_reason : MethodName := ⟨RX57, "reason", "()I"⟩
def dkwX57_reason_0 : List UInt8 := [42, 3, 181, 0, 81, 42, 180, 0, 159, 172]
abbrev dktX57_reason_0 : List UInt8 := dkwX57_reason_0 ++ []
theorem dksX57_reason_0 : cX57_reason.data.toList.drop 0 = dktX57_reason_0 := by decide +kernel
theorem dX57_reason_0 : decode cX57_reason 0 = .ok (.aload_n 0, 1) := dk_42 (dk_at dksX57_reason_0 0 rfl rfl)
theorem dX57_reason_1 : decode cX57_reason 1 = .ok (.iconst 0, 1) := dk_3 (dk_at dksX57_reason_0 1 rfl rfl)
theorem dX57_reason_2 : decode cX57_reason 2 = .ok (.putfield 81, 3) := dk_181 0 81 (dk_at dksX57_reason_0 2 rfl rfl)
theorem dX57_reason_5 : decode cX57_reason 5 = .ok (.aload_n 0, 1) := dk_42 (dk_at dksX57_reason_0 5 rfl rfl)
theorem dX57_reason_6 : decode cX57_reason 6 = .ok (.getfield 159, 3) := dk_180 0 159 (dk_at dksX57_reason_0 6 rfl rfl)
theorem dX57_reason_9 : decode cX57_reason 9 = .ok (.ireturn, 1) := dk_172 (dk_at dksX57_reason_0 9 rfl rfl)
abbrev cX57_count : ByteArray := prog_59_method_27_code
def yX57_count : MethodName := ⟨RX57, "count", "(II)J"⟩
def dkwX57_count_3 : List UInt8 := [167, 255, 214, 29, 133, 173]
abbrev dktX57_count_3 : List UInt8 := dkwX57_count_3 ++ []
def dkwX57_count_2 : List UInt8 := [42, 180, 0, 39, 21, 4, 46, 28, 160, 0, 9, 29, 4, 96, 167, 0, 4, 29, 62, 132, 4, 1]
abbrev dktX57_count_2 : List UInt8 := dkwX57_count_2 ++ dktX57_count_3
def dkwX57_count_1 : List UInt8 := [62, 3, 54, 4, 21, 4, 42, 180, 0, 140, 162, 0, 39, 42, 180, 0, 36, 21, 4, 46, 27, 160, 0, 20]
abbrev dktX57_count_1 : List UInt8 := dkwX57_count_1 ++ dktX57_count_2
def dkwX57_count_0 : List UInt8 := [42, 27, 182, 0, 136, 153, 0, 14, 28, 133, 20, 0, 125, 184, 0, 87, 154, 0, 7, 20, 0, 168, 173, 3]
abbrev dktX57_count_0 : List UInt8 := dkwX57_count_0 ++ dktX57_count_1
theorem dksX57_count_0 : cX57_count.data.toList.drop 0 = dktX57_count_0 := by decide +kernel
theorem dksX57_count_1 : cX57_count.data.toList.drop 24 = dktX57_count_1 := dk_seg dksX57_count_0 24 rfl rfl
theorem dksX57_count_2 : cX57_count.data.toList.drop 48 = dktX57_count_2 := dk_seg dksX57_count_1 24 rfl rfl
theorem dksX57_count_3 : cX57_count.data.toList.drop 70 = dktX57_count_3 := dk_seg dksX57_count_2 22 rfl rfl
theorem dX57_count_0 : decode cX57_count 0 = .ok (.aload_n 0, 1) := dk_42 (dk_at dksX57_count_0 0 rfl rfl)
theorem dX57_count_1 : decode cX57_count 1 = .ok (.iload_n 1, 1) := dk_27 (dk_at dksX57_count_0 1 rfl rfl)
theorem dX57_count_2 : decode cX57_count 2 = .ok (.invokevirtual 136, 3) := dk_182 0 136 (dk_at dksX57_count_0 2 rfl rfl)
theorem dX57_count_5 : decode cX57_count 5 = .ok (.ifCond .eq 14, 3) := dk_153 0 14 (dk_at dksX57_count_0 5 rfl rfl)
theorem dX57_count_8 : decode cX57_count 8 = .ok (.iload_n 2, 1) := dk_28 (dk_at dksX57_count_0 8 rfl rfl)
theorem dX57_count_9 : decode cX57_count 9 = .ok (.i2l, 1) := dk_133 (dk_at dksX57_count_0 9 rfl rfl)
theorem dX57_count_10 : decode cX57_count 10 = .ok (.ldc2_w 125, 3) := dk_20 0 125 (dk_at dksX57_count_0 10 rfl rfl)
theorem dX57_count_13 : decode cX57_count 13 = .ok (.invokestatic 87, 3) := dk_184 0 87 (dk_at dksX57_count_0 13 rfl rfl)
theorem dX57_count_16 : decode cX57_count 16 = .ok (.ifCond .ne 7, 3) := dk_154 0 7 (dk_at dksX57_count_0 16 rfl rfl)
theorem dX57_count_19 : decode cX57_count 19 = .ok (.ldc2_w 168, 3) := dk_20 0 168 (dk_at dksX57_count_0 19 rfl rfl)
theorem dX57_count_22 : decode cX57_count 22 = .ok (.lreturn, 1) := dk_173 (dk_at dksX57_count_0 22 rfl rfl)
theorem dX57_count_23 : decode cX57_count 23 = .ok (.iconst 0, 1) := dk_3 (dk_at dksX57_count_0 23 rfl rfl)
theorem dX57_count_24 : decode cX57_count 24 = .ok (.istore_n 3, 1) := dk_62 (dk_at dksX57_count_1 0 rfl rfl)
theorem dX57_count_25 : decode cX57_count 25 = .ok (.iconst 0, 1) := dk_3 (dk_at dksX57_count_1 1 rfl rfl)
theorem dX57_count_26 : decode cX57_count 26 = .ok (.istore 4, 2) := dk_54 4 (dk_at dksX57_count_1 2 rfl rfl)
theorem dX57_count_28 : decode cX57_count 28 = .ok (.iload 4, 2) := dk_21 4 (dk_at dksX57_count_1 4 rfl rfl)
theorem dX57_count_30 : decode cX57_count 30 = .ok (.aload_n 0, 1) := dk_42 (dk_at dksX57_count_1 6 rfl rfl)
theorem dX57_count_31 : decode cX57_count 31 = .ok (.getfield 140, 3) := dk_180 0 140 (dk_at dksX57_count_1 7 rfl rfl)
theorem dX57_count_34 : decode cX57_count 34 = .ok (.if_icmp .ge 39, 3) := dk_162 0 39 (dk_at dksX57_count_1 10 rfl rfl)
theorem dX57_count_37 : decode cX57_count 37 = .ok (.aload_n 0, 1) := dk_42 (dk_at dksX57_count_1 13 rfl rfl)
theorem dX57_count_38 : decode cX57_count 38 = .ok (.getfield 36, 3) := dk_180 0 36 (dk_at dksX57_count_1 14 rfl rfl)
theorem dX57_count_41 : decode cX57_count 41 = .ok (.iload 4, 2) := dk_21 4 (dk_at dksX57_count_1 17 rfl rfl)
theorem dX57_count_43 : decode cX57_count 43 = .ok (.iaload, 1) := dk_46 (dk_at dksX57_count_1 19 rfl rfl)
theorem dX57_count_44 : decode cX57_count 44 = .ok (.iload_n 1, 1) := dk_27 (dk_at dksX57_count_1 20 rfl rfl)
theorem dX57_count_45 : decode cX57_count 45 = .ok (.if_icmp .ne 20, 3) := dk_160 0 20 (dk_at dksX57_count_1 21 rfl rfl)
theorem dX57_count_48 : decode cX57_count 48 = .ok (.aload_n 0, 1) := dk_42 (dk_at dksX57_count_2 0 rfl rfl)
theorem dX57_count_49 : decode cX57_count 49 = .ok (.getfield 39, 3) := dk_180 0 39 (dk_at dksX57_count_2 1 rfl rfl)
theorem dX57_count_52 : decode cX57_count 52 = .ok (.iload 4, 2) := dk_21 4 (dk_at dksX57_count_2 4 rfl rfl)
theorem dX57_count_54 : decode cX57_count 54 = .ok (.iaload, 1) := dk_46 (dk_at dksX57_count_2 6 rfl rfl)
theorem dX57_count_55 : decode cX57_count 55 = .ok (.iload_n 2, 1) := dk_28 (dk_at dksX57_count_2 7 rfl rfl)
theorem dX57_count_56 : decode cX57_count 56 = .ok (.if_icmp .ne 9, 3) := dk_160 0 9 (dk_at dksX57_count_2 8 rfl rfl)
theorem dX57_count_59 : decode cX57_count 59 = .ok (.iload_n 3, 1) := dk_29 (dk_at dksX57_count_2 11 rfl rfl)
theorem dX57_count_60 : decode cX57_count 60 = .ok (.iconst 1, 1) := dk_4 (dk_at dksX57_count_2 12 rfl rfl)
theorem dX57_count_61 : decode cX57_count 61 = .ok (.iadd, 1) := dk_96 (dk_at dksX57_count_2 13 rfl rfl)
theorem dX57_count_62 : decode cX57_count 62 = .ok (.goto 4, 3) := dk_167 0 4 (dk_at dksX57_count_2 14 rfl rfl)
theorem dX57_count_65 : decode cX57_count 65 = .ok (.iload_n 3, 1) := dk_29 (dk_at dksX57_count_2 17 rfl rfl)
theorem dX57_count_66 : decode cX57_count 66 = .ok (.istore_n 3, 1) := dk_62 (dk_at dksX57_count_2 18 rfl rfl)
theorem dX57_count_67 : decode cX57_count 67 = .ok (.iinc 4 1, 3) := dk_132 4 1 (dk_at dksX57_count_2 19 rfl rfl)
theorem dX57_count_70 : decode cX57_count 70 = .ok (.goto (-42), 3) := dk_167 255 214 (dk_at dksX57_count_3 0 rfl rfl)
theorem dX57_count_73 : decode cX57_count 73 = .ok (.iload_n 3, 1) := dk_29 (dk_at dksX57_count_3 3 rfl rfl)
theorem dX57_count_74 : decode cX57_count 74 = .ok (.i2l, 1) := dk_133 (dk_at dksX57_count_3 4 rfl rfl)
theorem dX57_count_75 : decode cX57_count 75 = .ok (.lreturn, 1) := dk_173 (dk_at dksX57_count_3 5 rfl rfl)
abbrev cX57_join : ByteArray := prog_59_method_28_code
def yX57_join : MethodName := ⟨RX57, "join", "(II)I"⟩
def dkwX57_join_10 : List UInt8 := [180, 0, 170, 21, 5, 100, 172]
abbrev dktX57_join_10 : List UInt8 := dkwX57_join_10 ++ []
def dkwX57_join_9 : List UInt8 := [160, 0, 7, 29, 167, 0, 10, 42, 180, 0, 16, 21, 6, 46, 79, 132, 6, 1, 167, 255, 214, 42]
abbrev dktX57_join_9 : List UInt8 := dkwX57_join_9 ++ dktX57_join_10
def dkwX57_join_8 : List UInt8 := [42, 180, 0, 131, 162, 0, 39, 42, 180, 0, 16, 21, 6, 42, 180, 0, 16, 21, 6, 46, 21, 4]
abbrev dktX57_join_8 : List UInt8 := dkwX57_join_8 ++ dktX57_join_9
def dkwX57_join_7 : List UInt8 := [180, 0, 60, 21, 6, 47, 21, 4, 182, 0, 143, 3, 84, 132, 6, 1, 167, 255, 225, 3, 54, 6, 21, 6]
abbrev dktX57_join_7 : List UInt8 := dkwX57_join_7 ++ dktX57_join_8
def dkwX57_join_6 : List UInt8 := [167, 255, 167, 21, 5, 54, 6, 21, 6, 42, 180, 0, 170, 162, 0, 28, 42, 180, 0, 45, 42, 42]
abbrev dktX57_join_6 : List UInt8 := dkwX57_join_6 ++ dktX57_join_7
def dkwX57_join_5 : List UInt8 := [21, 6, 47, 42, 180, 0, 36, 21, 6, 46, 42, 180, 0, 36, 21, 7, 46, 182, 0, 173, 132, 6, 1]
abbrev dktX57_join_5 : List UInt8 := dkwX57_join_5 ++ dktX57_join_6
def dkwX57_join_4 : List UInt8 := [21, 4, 182, 0, 143, 167, 0, 4, 2, 54, 7, 21, 7, 155, 0, 30, 42, 21, 5, 42, 180, 0, 32]
abbrev dktX57_join_4 : List UInt8 := dkwX57_join_4 ++ dktX57_join_5
def dkwX57_join_3 : List UInt8 := [180, 0, 16, 42, 180, 0, 36, 21, 6, 46, 46, 29, 160, 0, 19, 42, 42, 180, 0, 32, 21, 6, 47]
abbrev dktX57_join_3 : List UInt8 := dkwX57_join_3 ++ dktX57_join_4
def dkwX57_join_2 : List UInt8 := [54, 6, 21, 6, 42, 180, 0, 140, 162, 0, 86, 42, 180, 0, 45, 21, 6, 51, 153, 0, 35, 42]
abbrev dktX57_join_2 : List UInt8 := dkwX57_join_2 ++ dktX57_join_3
def dkwX57_join_1 : List UInt8 := [62, 42, 180, 0, 16, 28, 46, 54, 4, 29, 21, 4, 160, 0, 5, 3, 172, 42, 180, 0, 170, 54, 5, 3]
abbrev dktX57_join_1 : List UInt8 := dkwX57_join_1 ++ dktX57_join_2
def dkwX57_join_0 : List UInt8 := [42, 27, 182, 0, 136, 153, 0, 11, 42, 28, 182, 0, 136, 154, 0, 5, 2, 172, 42, 180, 0, 16, 27, 46]
abbrev dktX57_join_0 : List UInt8 := dkwX57_join_0 ++ dktX57_join_1
theorem dksX57_join_0 : cX57_join.data.toList.drop 0 = dktX57_join_0 := by decide +kernel
theorem dksX57_join_1 : cX57_join.data.toList.drop 24 = dktX57_join_1 := dk_seg dksX57_join_0 24 rfl rfl
theorem dksX57_join_2 : cX57_join.data.toList.drop 48 = dktX57_join_2 := dk_seg dksX57_join_1 24 rfl rfl
theorem dksX57_join_3 : cX57_join.data.toList.drop 70 = dktX57_join_3 := dk_seg dksX57_join_2 22 rfl rfl
theorem dksX57_join_4 : cX57_join.data.toList.drop 93 = dktX57_join_4 := dk_seg dksX57_join_3 23 rfl rfl
theorem dksX57_join_5 : cX57_join.data.toList.drop 116 = dktX57_join_5 := dk_seg dksX57_join_4 23 rfl rfl
theorem dksX57_join_6 : cX57_join.data.toList.drop 139 = dktX57_join_6 := dk_seg dksX57_join_5 23 rfl rfl
theorem dksX57_join_7 : cX57_join.data.toList.drop 161 = dktX57_join_7 := dk_seg dksX57_join_6 22 rfl rfl
theorem dksX57_join_8 : cX57_join.data.toList.drop 185 = dktX57_join_8 := dk_seg dksX57_join_7 24 rfl rfl
theorem dksX57_join_9 : cX57_join.data.toList.drop 207 = dktX57_join_9 := dk_seg dksX57_join_8 22 rfl rfl
theorem dksX57_join_10 : cX57_join.data.toList.drop 229 = dktX57_join_10 := dk_seg dksX57_join_9 22 rfl rfl
theorem dX57_join_0 : decode cX57_join 0 = .ok (.aload_n 0, 1) := dk_42 (dk_at dksX57_join_0 0 rfl rfl)
theorem dX57_join_1 : decode cX57_join 1 = .ok (.iload_n 1, 1) := dk_27 (dk_at dksX57_join_0 1 rfl rfl)
theorem dX57_join_2 : decode cX57_join 2 = .ok (.invokevirtual 136, 3) := dk_182 0 136 (dk_at dksX57_join_0 2 rfl rfl)
theorem dX57_join_5 : decode cX57_join 5 = .ok (.ifCond .eq 11, 3) := dk_153 0 11 (dk_at dksX57_join_0 5 rfl rfl)
theorem dX57_join_8 : decode cX57_join 8 = .ok (.aload_n 0, 1) := dk_42 (dk_at dksX57_join_0 8 rfl rfl)
theorem dX57_join_9 : decode cX57_join 9 = .ok (.iload_n 2, 1) := dk_28 (dk_at dksX57_join_0 9 rfl rfl)
theorem dX57_join_10 : decode cX57_join 10 = .ok (.invokevirtual 136, 3) := dk_182 0 136 (dk_at dksX57_join_0 10 rfl rfl)
theorem dX57_join_13 : decode cX57_join 13 = .ok (.ifCond .ne 5, 3) := dk_154 0 5 (dk_at dksX57_join_0 13 rfl rfl)
theorem dX57_join_16 : decode cX57_join 16 = .ok (.iconst (-1), 1) := dk_2 (dk_at dksX57_join_0 16 rfl rfl)
theorem dX57_join_17 : decode cX57_join 17 = .ok (.ireturn, 1) := dk_172 (dk_at dksX57_join_0 17 rfl rfl)
theorem dX57_join_18 : decode cX57_join 18 = .ok (.aload_n 0, 1) := dk_42 (dk_at dksX57_join_0 18 rfl rfl)
theorem dX57_join_19 : decode cX57_join 19 = .ok (.getfield 16, 3) := dk_180 0 16 (dk_at dksX57_join_0 19 rfl rfl)
theorem dX57_join_22 : decode cX57_join 22 = .ok (.iload_n 1, 1) := dk_27 (dk_at dksX57_join_0 22 rfl rfl)
theorem dX57_join_23 : decode cX57_join 23 = .ok (.iaload, 1) := dk_46 (dk_at dksX57_join_0 23 rfl rfl)
theorem dX57_join_24 : decode cX57_join 24 = .ok (.istore_n 3, 1) := dk_62 (dk_at dksX57_join_1 0 rfl rfl)
theorem dX57_join_25 : decode cX57_join 25 = .ok (.aload_n 0, 1) := dk_42 (dk_at dksX57_join_1 1 rfl rfl)
theorem dX57_join_26 : decode cX57_join 26 = .ok (.getfield 16, 3) := dk_180 0 16 (dk_at dksX57_join_1 2 rfl rfl)
theorem dX57_join_29 : decode cX57_join 29 = .ok (.iload_n 2, 1) := dk_28 (dk_at dksX57_join_1 5 rfl rfl)
theorem dX57_join_30 : decode cX57_join 30 = .ok (.iaload, 1) := dk_46 (dk_at dksX57_join_1 6 rfl rfl)
theorem dX57_join_31 : decode cX57_join 31 = .ok (.istore 4, 2) := dk_54 4 (dk_at dksX57_join_1 7 rfl rfl)
theorem dX57_join_33 : decode cX57_join 33 = .ok (.iload_n 3, 1) := dk_29 (dk_at dksX57_join_1 9 rfl rfl)
theorem dX57_join_34 : decode cX57_join 34 = .ok (.iload 4, 2) := dk_21 4 (dk_at dksX57_join_1 10 rfl rfl)
theorem dX57_join_36 : decode cX57_join 36 = .ok (.if_icmp .ne 5, 3) := dk_160 0 5 (dk_at dksX57_join_1 12 rfl rfl)
theorem dX57_join_39 : decode cX57_join 39 = .ok (.iconst 0, 1) := dk_3 (dk_at dksX57_join_1 15 rfl rfl)
theorem dX57_join_40 : decode cX57_join 40 = .ok (.ireturn, 1) := dk_172 (dk_at dksX57_join_1 16 rfl rfl)
theorem dX57_join_41 : decode cX57_join 41 = .ok (.aload_n 0, 1) := dk_42 (dk_at dksX57_join_1 17 rfl rfl)
theorem dX57_join_42 : decode cX57_join 42 = .ok (.getfield 170, 3) := dk_180 0 170 (dk_at dksX57_join_1 18 rfl rfl)
theorem dX57_join_45 : decode cX57_join 45 = .ok (.istore 5, 2) := dk_54 5 (dk_at dksX57_join_1 21 rfl rfl)
theorem dX57_join_47 : decode cX57_join 47 = .ok (.iconst 0, 1) := dk_3 (dk_at dksX57_join_1 23 rfl rfl)
theorem dX57_join_48 : decode cX57_join 48 = .ok (.istore 6, 2) := dk_54 6 (dk_at dksX57_join_2 0 rfl rfl)
theorem dX57_join_50 : decode cX57_join 50 = .ok (.iload 6, 2) := dk_21 6 (dk_at dksX57_join_2 2 rfl rfl)
theorem dX57_join_52 : decode cX57_join 52 = .ok (.aload_n 0, 1) := dk_42 (dk_at dksX57_join_2 4 rfl rfl)
theorem dX57_join_53 : decode cX57_join 53 = .ok (.getfield 140, 3) := dk_180 0 140 (dk_at dksX57_join_2 5 rfl rfl)
theorem dX57_join_56 : decode cX57_join 56 = .ok (.if_icmp .ge 86, 3) := dk_162 0 86 (dk_at dksX57_join_2 8 rfl rfl)
theorem dX57_join_59 : decode cX57_join 59 = .ok (.aload_n 0, 1) := dk_42 (dk_at dksX57_join_2 11 rfl rfl)
theorem dX57_join_60 : decode cX57_join 60 = .ok (.getfield 45, 3) := dk_180 0 45 (dk_at dksX57_join_2 12 rfl rfl)
theorem dX57_join_63 : decode cX57_join 63 = .ok (.iload 6, 2) := dk_21 6 (dk_at dksX57_join_2 15 rfl rfl)
theorem dX57_join_65 : decode cX57_join 65 = .ok (.baload, 1) := dk_51 (dk_at dksX57_join_2 17 rfl rfl)
theorem dX57_join_66 : decode cX57_join 66 = .ok (.ifCond .eq 35, 3) := dk_153 0 35 (dk_at dksX57_join_2 18 rfl rfl)
theorem dX57_join_69 : decode cX57_join 69 = .ok (.aload_n 0, 1) := dk_42 (dk_at dksX57_join_2 21 rfl rfl)
theorem dX57_join_70 : decode cX57_join 70 = .ok (.getfield 16, 3) := dk_180 0 16 (dk_at dksX57_join_3 0 rfl rfl)
theorem dX57_join_73 : decode cX57_join 73 = .ok (.aload_n 0, 1) := dk_42 (dk_at dksX57_join_3 3 rfl rfl)
theorem dX57_join_74 : decode cX57_join 74 = .ok (.getfield 36, 3) := dk_180 0 36 (dk_at dksX57_join_3 4 rfl rfl)
theorem dX57_join_77 : decode cX57_join 77 = .ok (.iload 6, 2) := dk_21 6 (dk_at dksX57_join_3 7 rfl rfl)
theorem dX57_join_79 : decode cX57_join 79 = .ok (.iaload, 1) := dk_46 (dk_at dksX57_join_3 9 rfl rfl)
theorem dX57_join_80 : decode cX57_join 80 = .ok (.iaload, 1) := dk_46 (dk_at dksX57_join_3 10 rfl rfl)
theorem dX57_join_81 : decode cX57_join 81 = .ok (.iload_n 3, 1) := dk_29 (dk_at dksX57_join_3 11 rfl rfl)
theorem dX57_join_82 : decode cX57_join 82 = .ok (.if_icmp .ne 19, 3) := dk_160 0 19 (dk_at dksX57_join_3 12 rfl rfl)
theorem dX57_join_85 : decode cX57_join 85 = .ok (.aload_n 0, 1) := dk_42 (dk_at dksX57_join_3 15 rfl rfl)
theorem dX57_join_86 : decode cX57_join 86 = .ok (.aload_n 0, 1) := dk_42 (dk_at dksX57_join_3 16 rfl rfl)
theorem dX57_join_87 : decode cX57_join 87 = .ok (.getfield 32, 3) := dk_180 0 32 (dk_at dksX57_join_3 17 rfl rfl)
theorem dX57_join_90 : decode cX57_join 90 = .ok (.iload 6, 2) := dk_21 6 (dk_at dksX57_join_3 20 rfl rfl)
theorem dX57_join_92 : decode cX57_join 92 = .ok (.laload, 1) := dk_47 (dk_at dksX57_join_3 22 rfl rfl)
theorem dX57_join_93 : decode cX57_join 93 = .ok (.iload 4, 2) := dk_21 4 (dk_at dksX57_join_4 0 rfl rfl)
theorem dX57_join_95 : decode cX57_join 95 = .ok (.invokevirtual 143, 3) := dk_182 0 143 (dk_at dksX57_join_4 2 rfl rfl)
theorem dX57_join_98 : decode cX57_join 98 = .ok (.goto 4, 3) := dk_167 0 4 (dk_at dksX57_join_4 5 rfl rfl)
theorem dX57_join_101 : decode cX57_join 101 = .ok (.iconst (-1), 1) := dk_2 (dk_at dksX57_join_4 8 rfl rfl)
theorem dX57_join_102 : decode cX57_join 102 = .ok (.istore 7, 2) := dk_54 7 (dk_at dksX57_join_4 9 rfl rfl)
theorem dX57_join_104 : decode cX57_join 104 = .ok (.iload 7, 2) := dk_21 7 (dk_at dksX57_join_4 11 rfl rfl)
theorem dX57_join_106 : decode cX57_join 106 = .ok (.ifCond .lt 30, 3) := dk_155 0 30 (dk_at dksX57_join_4 13 rfl rfl)
theorem dX57_join_109 : decode cX57_join 109 = .ok (.aload_n 0, 1) := dk_42 (dk_at dksX57_join_4 16 rfl rfl)
theorem dX57_join_110 : decode cX57_join 110 = .ok (.iload 5, 2) := dk_21 5 (dk_at dksX57_join_4 17 rfl rfl)
theorem dX57_join_112 : decode cX57_join 112 = .ok (.aload_n 0, 1) := dk_42 (dk_at dksX57_join_4 19 rfl rfl)
theorem dX57_join_113 : decode cX57_join 113 = .ok (.getfield 32, 3) := dk_180 0 32 (dk_at dksX57_join_4 20 rfl rfl)
theorem dX57_join_116 : decode cX57_join 116 = .ok (.iload 6, 2) := dk_21 6 (dk_at dksX57_join_5 0 rfl rfl)
theorem dX57_join_118 : decode cX57_join 118 = .ok (.laload, 1) := dk_47 (dk_at dksX57_join_5 2 rfl rfl)
theorem dX57_join_119 : decode cX57_join 119 = .ok (.aload_n 0, 1) := dk_42 (dk_at dksX57_join_5 3 rfl rfl)
theorem dX57_join_120 : decode cX57_join 120 = .ok (.getfield 36, 3) := dk_180 0 36 (dk_at dksX57_join_5 4 rfl rfl)
theorem dX57_join_123 : decode cX57_join 123 = .ok (.iload 6, 2) := dk_21 6 (dk_at dksX57_join_5 7 rfl rfl)
theorem dX57_join_125 : decode cX57_join 125 = .ok (.iaload, 1) := dk_46 (dk_at dksX57_join_5 9 rfl rfl)
theorem dX57_join_126 : decode cX57_join 126 = .ok (.aload_n 0, 1) := dk_42 (dk_at dksX57_join_5 10 rfl rfl)
theorem dX57_join_127 : decode cX57_join 127 = .ok (.getfield 36, 3) := dk_180 0 36 (dk_at dksX57_join_5 11 rfl rfl)
theorem dX57_join_130 : decode cX57_join 130 = .ok (.iload 7, 2) := dk_21 7 (dk_at dksX57_join_5 14 rfl rfl)
theorem dX57_join_132 : decode cX57_join 132 = .ok (.iaload, 1) := dk_46 (dk_at dksX57_join_5 16 rfl rfl)
theorem dX57_join_133 : decode cX57_join 133 = .ok (.invokevirtual 173, 3) := dk_182 0 173 (dk_at dksX57_join_5 17 rfl rfl)
theorem dX57_join_136 : decode cX57_join 136 = .ok (.iinc 6 1, 3) := dk_132 6 1 (dk_at dksX57_join_5 20 rfl rfl)
theorem dX57_join_139 : decode cX57_join 139 = .ok (.goto (-89), 3) := dk_167 255 167 (dk_at dksX57_join_6 0 rfl rfl)
theorem dX57_join_142 : decode cX57_join 142 = .ok (.iload 5, 2) := dk_21 5 (dk_at dksX57_join_6 3 rfl rfl)
theorem dX57_join_144 : decode cX57_join 144 = .ok (.istore 6, 2) := dk_54 6 (dk_at dksX57_join_6 5 rfl rfl)
theorem dX57_join_146 : decode cX57_join 146 = .ok (.iload 6, 2) := dk_21 6 (dk_at dksX57_join_6 7 rfl rfl)
theorem dX57_join_148 : decode cX57_join 148 = .ok (.aload_n 0, 1) := dk_42 (dk_at dksX57_join_6 9 rfl rfl)
theorem dX57_join_149 : decode cX57_join 149 = .ok (.getfield 170, 3) := dk_180 0 170 (dk_at dksX57_join_6 10 rfl rfl)
theorem dX57_join_152 : decode cX57_join 152 = .ok (.if_icmp .ge 28, 3) := dk_162 0 28 (dk_at dksX57_join_6 13 rfl rfl)
theorem dX57_join_155 : decode cX57_join 155 = .ok (.aload_n 0, 1) := dk_42 (dk_at dksX57_join_6 16 rfl rfl)
theorem dX57_join_156 : decode cX57_join 156 = .ok (.getfield 45, 3) := dk_180 0 45 (dk_at dksX57_join_6 17 rfl rfl)
theorem dX57_join_159 : decode cX57_join 159 = .ok (.aload_n 0, 1) := dk_42 (dk_at dksX57_join_6 20 rfl rfl)
theorem dX57_join_160 : decode cX57_join 160 = .ok (.aload_n 0, 1) := dk_42 (dk_at dksX57_join_6 21 rfl rfl)
theorem dX57_join_161 : decode cX57_join 161 = .ok (.getfield 60, 3) := dk_180 0 60 (dk_at dksX57_join_7 0 rfl rfl)
theorem dX57_join_164 : decode cX57_join 164 = .ok (.iload 6, 2) := dk_21 6 (dk_at dksX57_join_7 3 rfl rfl)
theorem dX57_join_166 : decode cX57_join 166 = .ok (.laload, 1) := dk_47 (dk_at dksX57_join_7 5 rfl rfl)
theorem dX57_join_167 : decode cX57_join 167 = .ok (.iload 4, 2) := dk_21 4 (dk_at dksX57_join_7 6 rfl rfl)
theorem dX57_join_169 : decode cX57_join 169 = .ok (.invokevirtual 143, 3) := dk_182 0 143 (dk_at dksX57_join_7 8 rfl rfl)
theorem dX57_join_172 : decode cX57_join 172 = .ok (.iconst 0, 1) := dk_3 (dk_at dksX57_join_7 11 rfl rfl)
theorem dX57_join_173 : decode cX57_join 173 = .ok (.bastore, 1) := dk_84 (dk_at dksX57_join_7 12 rfl rfl)
theorem dX57_join_174 : decode cX57_join 174 = .ok (.iinc 6 1, 3) := dk_132 6 1 (dk_at dksX57_join_7 13 rfl rfl)
theorem dX57_join_177 : decode cX57_join 177 = .ok (.goto (-31), 3) := dk_167 255 225 (dk_at dksX57_join_7 16 rfl rfl)
theorem dX57_join_180 : decode cX57_join 180 = .ok (.iconst 0, 1) := dk_3 (dk_at dksX57_join_7 19 rfl rfl)
theorem dX57_join_181 : decode cX57_join 181 = .ok (.istore 6, 2) := dk_54 6 (dk_at dksX57_join_7 20 rfl rfl)
theorem dX57_join_183 : decode cX57_join 183 = .ok (.iload 6, 2) := dk_21 6 (dk_at dksX57_join_7 22 rfl rfl)
theorem dX57_join_185 : decode cX57_join 185 = .ok (.aload_n 0, 1) := dk_42 (dk_at dksX57_join_8 0 rfl rfl)
theorem dX57_join_186 : decode cX57_join 186 = .ok (.getfield 131, 3) := dk_180 0 131 (dk_at dksX57_join_8 1 rfl rfl)
theorem dX57_join_189 : decode cX57_join 189 = .ok (.if_icmp .ge 39, 3) := dk_162 0 39 (dk_at dksX57_join_8 4 rfl rfl)
theorem dX57_join_192 : decode cX57_join 192 = .ok (.aload_n 0, 1) := dk_42 (dk_at dksX57_join_8 7 rfl rfl)
theorem dX57_join_193 : decode cX57_join 193 = .ok (.getfield 16, 3) := dk_180 0 16 (dk_at dksX57_join_8 8 rfl rfl)
theorem dX57_join_196 : decode cX57_join 196 = .ok (.iload 6, 2) := dk_21 6 (dk_at dksX57_join_8 11 rfl rfl)
theorem dX57_join_198 : decode cX57_join 198 = .ok (.aload_n 0, 1) := dk_42 (dk_at dksX57_join_8 13 rfl rfl)
theorem dX57_join_199 : decode cX57_join 199 = .ok (.getfield 16, 3) := dk_180 0 16 (dk_at dksX57_join_8 14 rfl rfl)
theorem dX57_join_202 : decode cX57_join 202 = .ok (.iload 6, 2) := dk_21 6 (dk_at dksX57_join_8 17 rfl rfl)
theorem dX57_join_204 : decode cX57_join 204 = .ok (.iaload, 1) := dk_46 (dk_at dksX57_join_8 19 rfl rfl)
theorem dX57_join_205 : decode cX57_join 205 = .ok (.iload 4, 2) := dk_21 4 (dk_at dksX57_join_8 20 rfl rfl)
theorem dX57_join_207 : decode cX57_join 207 = .ok (.if_icmp .ne 7, 3) := dk_160 0 7 (dk_at dksX57_join_9 0 rfl rfl)
theorem dX57_join_210 : decode cX57_join 210 = .ok (.iload_n 3, 1) := dk_29 (dk_at dksX57_join_9 3 rfl rfl)
theorem dX57_join_211 : decode cX57_join 211 = .ok (.goto 10, 3) := dk_167 0 10 (dk_at dksX57_join_9 4 rfl rfl)
theorem dX57_join_214 : decode cX57_join 214 = .ok (.aload_n 0, 1) := dk_42 (dk_at dksX57_join_9 7 rfl rfl)
theorem dX57_join_215 : decode cX57_join 215 = .ok (.getfield 16, 3) := dk_180 0 16 (dk_at dksX57_join_9 8 rfl rfl)
theorem dX57_join_218 : decode cX57_join 218 = .ok (.iload 6, 2) := dk_21 6 (dk_at dksX57_join_9 11 rfl rfl)
theorem dX57_join_220 : decode cX57_join 220 = .ok (.iaload, 1) := dk_46 (dk_at dksX57_join_9 13 rfl rfl)
theorem dX57_join_221 : decode cX57_join 221 = .ok (.iastore, 1) := dk_79 (dk_at dksX57_join_9 14 rfl rfl)
theorem dX57_join_222 : decode cX57_join 222 = .ok (.iinc 6 1, 3) := dk_132 6 1 (dk_at dksX57_join_9 15 rfl rfl)
theorem dX57_join_225 : decode cX57_join 225 = .ok (.goto (-42), 3) := dk_167 255 214 (dk_at dksX57_join_9 18 rfl rfl)
theorem dX57_join_228 : decode cX57_join 228 = .ok (.aload_n 0, 1) := dk_42 (dk_at dksX57_join_9 21 rfl rfl)
theorem dX57_join_229 : decode cX57_join 229 = .ok (.getfield 170, 3) := dk_180 0 170 (dk_at dksX57_join_10 0 rfl rfl)
theorem dX57_join_232 : decode cX57_join 232 = .ok (.iload 5, 2) := dk_21 5 (dk_at dksX57_join_10 3 rfl rfl)
theorem dX57_join_234 : decode cX57_join 234 = .ok (.isub, 1) := dk_100 (dk_at dksX57_join_10 5 rfl rfl)
theorem dX57_join_235 : decode cX57_join 235 = .ok (.ireturn, 1) := dk_172 (dk_at dksX57_join_10 6 rfl rfl)
abbrev cX57_insert : ByteArray := prog_59_method_29_code
def yX57_insert : MethodName := ⟨RX57, "insert", "(IJII)V"⟩
def dkwX57_insert_4 : List UInt8 := [21, 4, 79, 42, 180, 0, 66, 21, 6, 21, 5, 79, 42, 89, 180, 0, 170, 4, 96, 181, 0, 170, 177]
abbrev dktX57_insert_4 : List UInt8 := dkwX57_insert_4 ++ []
def dkwX57_insert_3 : List UInt8 := [4, 100, 46, 79, 132, 6, 255, 167, 255, 185, 42, 180, 0, 60, 21, 6, 32, 80, 42, 180, 0, 63, 21, 6]
abbrev dktX57_insert_3 : List UInt8 := dkwX57_insert_3 ++ dktX57_insert_4
def dkwX57_insert_2 : List UInt8 := [21, 6, 42, 180, 0, 63, 21, 6, 4, 100, 46, 79, 42, 180, 0, 66, 21, 6, 42, 180, 0, 66, 21, 6]
abbrev dktX57_insert_2 : List UInt8 := dkwX57_insert_2 ++ dktX57_insert_3
def dkwX57_insert_1 : List UInt8 := [158, 0, 57, 42, 180, 0, 60, 21, 6, 42, 180, 0, 60, 21, 6, 4, 100, 47, 80, 42, 180, 0, 63]
abbrev dktX57_insert_1 : List UInt8 := dkwX57_insert_1 ++ dktX57_insert_2
def dkwX57_insert_0 : List UInt8 := [42, 180, 0, 170, 54, 6, 21, 6, 27, 164, 0, 71, 42, 180, 0, 60, 21, 6, 4, 100, 47, 32, 148]
abbrev dktX57_insert_0 : List UInt8 := dkwX57_insert_0 ++ dktX57_insert_1
theorem dksX57_insert_0 : cX57_insert.data.toList.drop 0 = dktX57_insert_0 := by decide +kernel
theorem dksX57_insert_1 : cX57_insert.data.toList.drop 23 = dktX57_insert_1 := dk_seg dksX57_insert_0 23 rfl rfl
theorem dksX57_insert_2 : cX57_insert.data.toList.drop 46 = dktX57_insert_2 := dk_seg dksX57_insert_1 23 rfl rfl
theorem dksX57_insert_3 : cX57_insert.data.toList.drop 70 = dktX57_insert_3 := dk_seg dksX57_insert_2 24 rfl rfl
theorem dksX57_insert_4 : cX57_insert.data.toList.drop 94 = dktX57_insert_4 := dk_seg dksX57_insert_3 24 rfl rfl
theorem dX57_insert_0 : decode cX57_insert 0 = .ok (.aload_n 0, 1) := dk_42 (dk_at dksX57_insert_0 0 rfl rfl)
theorem dX57_insert_1 : decode cX57_insert 1 = .ok (.getfield 170, 3) := dk_180 0 170 (dk_at dksX57_insert_0 1 rfl rfl)
theorem dX57_insert_4 : decode cX57_insert 4 = .ok (.istore 6, 2) := dk_54 6 (dk_at dksX57_insert_0 4 rfl rfl)
theorem dX57_insert_6 : decode cX57_insert 6 = .ok (.iload 6, 2) := dk_21 6 (dk_at dksX57_insert_0 6 rfl rfl)
theorem dX57_insert_8 : decode cX57_insert 8 = .ok (.iload_n 1, 1) := dk_27 (dk_at dksX57_insert_0 8 rfl rfl)
theorem dX57_insert_9 : decode cX57_insert 9 = .ok (.if_icmp .le 71, 3) := dk_164 0 71 (dk_at dksX57_insert_0 9 rfl rfl)
theorem dX57_insert_12 : decode cX57_insert 12 = .ok (.aload_n 0, 1) := dk_42 (dk_at dksX57_insert_0 12 rfl rfl)
theorem dX57_insert_13 : decode cX57_insert 13 = .ok (.getfield 60, 3) := dk_180 0 60 (dk_at dksX57_insert_0 13 rfl rfl)
theorem dX57_insert_16 : decode cX57_insert 16 = .ok (.iload 6, 2) := dk_21 6 (dk_at dksX57_insert_0 16 rfl rfl)
theorem dX57_insert_18 : decode cX57_insert 18 = .ok (.iconst 1, 1) := dk_4 (dk_at dksX57_insert_0 18 rfl rfl)
theorem dX57_insert_19 : decode cX57_insert 19 = .ok (.isub, 1) := dk_100 (dk_at dksX57_insert_0 19 rfl rfl)
theorem dX57_insert_20 : decode cX57_insert 20 = .ok (.laload, 1) := dk_47 (dk_at dksX57_insert_0 20 rfl rfl)
theorem dX57_insert_21 : decode cX57_insert 21 = .ok (.lload_n 2, 1) := dk_32 (dk_at dksX57_insert_0 21 rfl rfl)
theorem dX57_insert_22 : decode cX57_insert 22 = .ok (.lcmp, 1) := dk_148 (dk_at dksX57_insert_0 22 rfl rfl)
theorem dX57_insert_23 : decode cX57_insert 23 = .ok (.ifCond .le 57, 3) := dk_158 0 57 (dk_at dksX57_insert_1 0 rfl rfl)
theorem dX57_insert_26 : decode cX57_insert 26 = .ok (.aload_n 0, 1) := dk_42 (dk_at dksX57_insert_1 3 rfl rfl)
theorem dX57_insert_27 : decode cX57_insert 27 = .ok (.getfield 60, 3) := dk_180 0 60 (dk_at dksX57_insert_1 4 rfl rfl)
theorem dX57_insert_30 : decode cX57_insert 30 = .ok (.iload 6, 2) := dk_21 6 (dk_at dksX57_insert_1 7 rfl rfl)
theorem dX57_insert_32 : decode cX57_insert 32 = .ok (.aload_n 0, 1) := dk_42 (dk_at dksX57_insert_1 9 rfl rfl)
theorem dX57_insert_33 : decode cX57_insert 33 = .ok (.getfield 60, 3) := dk_180 0 60 (dk_at dksX57_insert_1 10 rfl rfl)
theorem dX57_insert_36 : decode cX57_insert 36 = .ok (.iload 6, 2) := dk_21 6 (dk_at dksX57_insert_1 13 rfl rfl)
theorem dX57_insert_38 : decode cX57_insert 38 = .ok (.iconst 1, 1) := dk_4 (dk_at dksX57_insert_1 15 rfl rfl)
theorem dX57_insert_39 : decode cX57_insert 39 = .ok (.isub, 1) := dk_100 (dk_at dksX57_insert_1 16 rfl rfl)
theorem dX57_insert_40 : decode cX57_insert 40 = .ok (.laload, 1) := dk_47 (dk_at dksX57_insert_1 17 rfl rfl)
theorem dX57_insert_41 : decode cX57_insert 41 = .ok (.lastore, 1) := dk_80 (dk_at dksX57_insert_1 18 rfl rfl)
theorem dX57_insert_42 : decode cX57_insert 42 = .ok (.aload_n 0, 1) := dk_42 (dk_at dksX57_insert_1 19 rfl rfl)
theorem dX57_insert_43 : decode cX57_insert 43 = .ok (.getfield 63, 3) := dk_180 0 63 (dk_at dksX57_insert_1 20 rfl rfl)
theorem dX57_insert_46 : decode cX57_insert 46 = .ok (.iload 6, 2) := dk_21 6 (dk_at dksX57_insert_2 0 rfl rfl)
theorem dX57_insert_48 : decode cX57_insert 48 = .ok (.aload_n 0, 1) := dk_42 (dk_at dksX57_insert_2 2 rfl rfl)
theorem dX57_insert_49 : decode cX57_insert 49 = .ok (.getfield 63, 3) := dk_180 0 63 (dk_at dksX57_insert_2 3 rfl rfl)
theorem dX57_insert_52 : decode cX57_insert 52 = .ok (.iload 6, 2) := dk_21 6 (dk_at dksX57_insert_2 6 rfl rfl)
theorem dX57_insert_54 : decode cX57_insert 54 = .ok (.iconst 1, 1) := dk_4 (dk_at dksX57_insert_2 8 rfl rfl)
theorem dX57_insert_55 : decode cX57_insert 55 = .ok (.isub, 1) := dk_100 (dk_at dksX57_insert_2 9 rfl rfl)
theorem dX57_insert_56 : decode cX57_insert 56 = .ok (.iaload, 1) := dk_46 (dk_at dksX57_insert_2 10 rfl rfl)
theorem dX57_insert_57 : decode cX57_insert 57 = .ok (.iastore, 1) := dk_79 (dk_at dksX57_insert_2 11 rfl rfl)
theorem dX57_insert_58 : decode cX57_insert 58 = .ok (.aload_n 0, 1) := dk_42 (dk_at dksX57_insert_2 12 rfl rfl)
theorem dX57_insert_59 : decode cX57_insert 59 = .ok (.getfield 66, 3) := dk_180 0 66 (dk_at dksX57_insert_2 13 rfl rfl)
theorem dX57_insert_62 : decode cX57_insert 62 = .ok (.iload 6, 2) := dk_21 6 (dk_at dksX57_insert_2 16 rfl rfl)
theorem dX57_insert_64 : decode cX57_insert 64 = .ok (.aload_n 0, 1) := dk_42 (dk_at dksX57_insert_2 18 rfl rfl)
theorem dX57_insert_65 : decode cX57_insert 65 = .ok (.getfield 66, 3) := dk_180 0 66 (dk_at dksX57_insert_2 19 rfl rfl)
theorem dX57_insert_68 : decode cX57_insert 68 = .ok (.iload 6, 2) := dk_21 6 (dk_at dksX57_insert_2 22 rfl rfl)
theorem dX57_insert_70 : decode cX57_insert 70 = .ok (.iconst 1, 1) := dk_4 (dk_at dksX57_insert_3 0 rfl rfl)
theorem dX57_insert_71 : decode cX57_insert 71 = .ok (.isub, 1) := dk_100 (dk_at dksX57_insert_3 1 rfl rfl)
theorem dX57_insert_72 : decode cX57_insert 72 = .ok (.iaload, 1) := dk_46 (dk_at dksX57_insert_3 2 rfl rfl)
theorem dX57_insert_73 : decode cX57_insert 73 = .ok (.iastore, 1) := dk_79 (dk_at dksX57_insert_3 3 rfl rfl)
theorem dX57_insert_74 : decode cX57_insert 74 = .ok (.iinc 6 (-1), 3) := dk_132 6 255 (dk_at dksX57_insert_3 4 rfl rfl)
theorem dX57_insert_77 : decode cX57_insert 77 = .ok (.goto (-71), 3) := dk_167 255 185 (dk_at dksX57_insert_3 7 rfl rfl)
theorem dX57_insert_80 : decode cX57_insert 80 = .ok (.aload_n 0, 1) := dk_42 (dk_at dksX57_insert_3 10 rfl rfl)
theorem dX57_insert_81 : decode cX57_insert 81 = .ok (.getfield 60, 3) := dk_180 0 60 (dk_at dksX57_insert_3 11 rfl rfl)
theorem dX57_insert_84 : decode cX57_insert 84 = .ok (.iload 6, 2) := dk_21 6 (dk_at dksX57_insert_3 14 rfl rfl)
theorem dX57_insert_86 : decode cX57_insert 86 = .ok (.lload_n 2, 1) := dk_32 (dk_at dksX57_insert_3 16 rfl rfl)
theorem dX57_insert_87 : decode cX57_insert 87 = .ok (.lastore, 1) := dk_80 (dk_at dksX57_insert_3 17 rfl rfl)
theorem dX57_insert_88 : decode cX57_insert 88 = .ok (.aload_n 0, 1) := dk_42 (dk_at dksX57_insert_3 18 rfl rfl)
theorem dX57_insert_89 : decode cX57_insert 89 = .ok (.getfield 63, 3) := dk_180 0 63 (dk_at dksX57_insert_3 19 rfl rfl)
theorem dX57_insert_92 : decode cX57_insert 92 = .ok (.iload 6, 2) := dk_21 6 (dk_at dksX57_insert_3 22 rfl rfl)
theorem dX57_insert_94 : decode cX57_insert 94 = .ok (.iload 4, 2) := dk_21 4 (dk_at dksX57_insert_4 0 rfl rfl)
theorem dX57_insert_96 : decode cX57_insert 96 = .ok (.iastore, 1) := dk_79 (dk_at dksX57_insert_4 2 rfl rfl)
theorem dX57_insert_97 : decode cX57_insert 97 = .ok (.aload_n 0, 1) := dk_42 (dk_at dksX57_insert_4 3 rfl rfl)
theorem dX57_insert_98 : decode cX57_insert 98 = .ok (.getfield 66, 3) := dk_180 0 66 (dk_at dksX57_insert_4 4 rfl rfl)
theorem dX57_insert_101 : decode cX57_insert 101 = .ok (.iload 6, 2) := dk_21 6 (dk_at dksX57_insert_4 7 rfl rfl)
theorem dX57_insert_103 : decode cX57_insert 103 = .ok (.iload 5, 2) := dk_21 5 (dk_at dksX57_insert_4 9 rfl rfl)
theorem dX57_insert_105 : decode cX57_insert 105 = .ok (.iastore, 1) := dk_79 (dk_at dksX57_insert_4 11 rfl rfl)
theorem dX57_insert_106 : decode cX57_insert 106 = .ok (.aload_n 0, 1) := dk_42 (dk_at dksX57_insert_4 12 rfl rfl)
theorem dX57_insert_107 : decode cX57_insert 107 = .ok (.dup, 1) := dk_89 (dk_at dksX57_insert_4 13 rfl rfl)
theorem dX57_insert_108 : decode cX57_insert 108 = .ok (.getfield 170, 3) := dk_180 0 170 (dk_at dksX57_insert_4 14 rfl rfl)
theorem dX57_insert_111 : decode cX57_insert 111 = .ok (.iconst 1, 1) := dk_4 (dk_at dksX57_insert_4 17 rfl rfl)
theorem dX57_insert_112 : decode cX57_insert 112 = .ok (.iadd, 1) := dk_96 (dk_at dksX57_insert_4 18 rfl rfl)
theorem dX57_insert_113 : decode cX57_insert 113 = .ok (.putfield 170, 3) := dk_181 0 170 (dk_at dksX57_insert_4 19 rfl rfl)
theorem dX57_insert_116 : decode cX57_insert 116 = .ok (.return_, 1) := dk_177 (dk_at dksX57_insert_4 22 rfl rfl)
abbrev cX57_double2 : ByteArray := prog_59_method_31_code
def yX57_double2 : MethodName := ⟨RX57, "double2", "(II)I"⟩
def dkwX57_double2_5 : List UInt8 := [20, 0, 115, 113, 136, 172]
abbrev dktX57_double2_5 : List UInt8 := dkwX57_double2_5 ++ []
def dkwX57_double2_4 : List UInt8 := [21, 6, 28, 6, 100, 164, 0, 17, 22, 4, 20, 0, 115, 109, 55, 4, 132, 6, 255, 167, 255, 237, 22, 4]
abbrev dktX57_double2_4 : List UInt8 := dkwX57_double2_4 ++ dktX57_double2_5
def dkwX57_double2_3 : List UInt8 := [172, 28, 6, 100, 29, 161, 0, 5, 2, 172, 42, 180, 0, 60, 27, 47, 55, 4, 29, 4, 100, 54, 6]
abbrev dktX57_double2_3 : List UInt8 := dkwX57_double2_3 ++ dktX57_double2_4
def dkwX57_double2_2 : List UInt8 := [42, 180, 0, 63, 27, 46, 167, 0, 18, 28, 4, 160, 0, 12, 42, 180, 0, 66, 27, 46, 167, 0, 4, 29]
abbrev dktX57_double2_2 : List UInt8 := dkwX57_double2_2 ++ dktX57_double2_3
def dkwX57_double2_1 : List UInt8 := [164, 0, 5, 2, 172, 42, 180, 0, 60, 27, 47, 184, 0, 179, 62, 28, 6, 162, 0, 32, 28, 154, 0, 12]
abbrev dktX57_double2_1 : List UInt8 := dkwX57_double2_1 ++ dktX57_double2_2
def dkwX57_double2_0 : List UInt8 := [42, 3, 181, 0, 81, 27, 155, 0, 21, 27, 42, 180, 0, 170, 162, 0, 13, 28, 155, 0, 9, 28, 16, 20]
abbrev dktX57_double2_0 : List UInt8 := dkwX57_double2_0 ++ dktX57_double2_1
theorem dksX57_double2_0 : cX57_double2.data.toList.drop 0 = dktX57_double2_0 := by decide +kernel
theorem dksX57_double2_1 : cX57_double2.data.toList.drop 24 = dktX57_double2_1 := dk_seg dksX57_double2_0 24 rfl rfl
theorem dksX57_double2_2 : cX57_double2.data.toList.drop 48 = dktX57_double2_2 := dk_seg dksX57_double2_1 24 rfl rfl
theorem dksX57_double2_3 : cX57_double2.data.toList.drop 72 = dktX57_double2_3 := dk_seg dksX57_double2_2 24 rfl rfl
theorem dksX57_double2_4 : cX57_double2.data.toList.drop 95 = dktX57_double2_4 := dk_seg dksX57_double2_3 23 rfl rfl
theorem dksX57_double2_5 : cX57_double2.data.toList.drop 119 = dktX57_double2_5 := dk_seg dksX57_double2_4 24 rfl rfl
theorem dX57_double2_0 : decode cX57_double2 0 = .ok (.aload_n 0, 1) := dk_42 (dk_at dksX57_double2_0 0 rfl rfl)
theorem dX57_double2_1 : decode cX57_double2 1 = .ok (.iconst 0, 1) := dk_3 (dk_at dksX57_double2_0 1 rfl rfl)
theorem dX57_double2_2 : decode cX57_double2 2 = .ok (.putfield 81, 3) := dk_181 0 81 (dk_at dksX57_double2_0 2 rfl rfl)
theorem dX57_double2_5 : decode cX57_double2 5 = .ok (.iload_n 1, 1) := dk_27 (dk_at dksX57_double2_0 5 rfl rfl)
theorem dX57_double2_6 : decode cX57_double2 6 = .ok (.ifCond .lt 21, 3) := dk_155 0 21 (dk_at dksX57_double2_0 6 rfl rfl)
theorem dX57_double2_9 : decode cX57_double2 9 = .ok (.iload_n 1, 1) := dk_27 (dk_at dksX57_double2_0 9 rfl rfl)
theorem dX57_double2_10 : decode cX57_double2 10 = .ok (.aload_n 0, 1) := dk_42 (dk_at dksX57_double2_0 10 rfl rfl)
theorem dX57_double2_11 : decode cX57_double2 11 = .ok (.getfield 170, 3) := dk_180 0 170 (dk_at dksX57_double2_0 11 rfl rfl)
theorem dX57_double2_14 : decode cX57_double2 14 = .ok (.if_icmp .ge 13, 3) := dk_162 0 13 (dk_at dksX57_double2_0 14 rfl rfl)
theorem dX57_double2_17 : decode cX57_double2 17 = .ok (.iload_n 2, 1) := dk_28 (dk_at dksX57_double2_0 17 rfl rfl)
theorem dX57_double2_18 : decode cX57_double2 18 = .ok (.ifCond .lt 9, 3) := dk_155 0 9 (dk_at dksX57_double2_0 18 rfl rfl)
theorem dX57_double2_21 : decode cX57_double2 21 = .ok (.iload_n 2, 1) := dk_28 (dk_at dksX57_double2_0 21 rfl rfl)
theorem dX57_double2_22 : decode cX57_double2 22 = .ok (.bipush 20, 2) := dk_16 20 (dk_at dksX57_double2_0 22 rfl rfl)
theorem dX57_double2_24 : decode cX57_double2 24 = .ok (.if_icmp .le 5, 3) := dk_164 0 5 (dk_at dksX57_double2_1 0 rfl rfl)
theorem dX57_double2_27 : decode cX57_double2 27 = .ok (.iconst (-1), 1) := dk_2 (dk_at dksX57_double2_1 3 rfl rfl)
theorem dX57_double2_28 : decode cX57_double2 28 = .ok (.ireturn, 1) := dk_172 (dk_at dksX57_double2_1 4 rfl rfl)
theorem dX57_double2_29 : decode cX57_double2 29 = .ok (.aload_n 0, 1) := dk_42 (dk_at dksX57_double2_1 5 rfl rfl)
theorem dX57_double2_30 : decode cX57_double2 30 = .ok (.getfield 60, 3) := dk_180 0 60 (dk_at dksX57_double2_1 6 rfl rfl)
theorem dX57_double2_33 : decode cX57_double2 33 = .ok (.iload_n 1, 1) := dk_27 (dk_at dksX57_double2_1 9 rfl rfl)
theorem dX57_double2_34 : decode cX57_double2 34 = .ok (.laload, 1) := dk_47 (dk_at dksX57_double2_1 10 rfl rfl)
theorem dX57_double2_35 : decode cX57_double2 35 = .ok (.invokestatic 179, 3) := dk_184 0 179 (dk_at dksX57_double2_1 11 rfl rfl)
theorem dX57_double2_38 : decode cX57_double2 38 = .ok (.istore_n 3, 1) := dk_62 (dk_at dksX57_double2_1 14 rfl rfl)
theorem dX57_double2_39 : decode cX57_double2 39 = .ok (.iload_n 2, 1) := dk_28 (dk_at dksX57_double2_1 15 rfl rfl)
theorem dX57_double2_40 : decode cX57_double2 40 = .ok (.iconst 3, 1) := dk_6 (dk_at dksX57_double2_1 16 rfl rfl)
theorem dX57_double2_41 : decode cX57_double2 41 = .ok (.if_icmp .ge 32, 3) := dk_162 0 32 (dk_at dksX57_double2_1 17 rfl rfl)
theorem dX57_double2_44 : decode cX57_double2 44 = .ok (.iload_n 2, 1) := dk_28 (dk_at dksX57_double2_1 20 rfl rfl)
theorem dX57_double2_45 : decode cX57_double2 45 = .ok (.ifCond .ne 12, 3) := dk_154 0 12 (dk_at dksX57_double2_1 21 rfl rfl)
theorem dX57_double2_48 : decode cX57_double2 48 = .ok (.aload_n 0, 1) := dk_42 (dk_at dksX57_double2_2 0 rfl rfl)
theorem dX57_double2_49 : decode cX57_double2 49 = .ok (.getfield 63, 3) := dk_180 0 63 (dk_at dksX57_double2_2 1 rfl rfl)
theorem dX57_double2_52 : decode cX57_double2 52 = .ok (.iload_n 1, 1) := dk_27 (dk_at dksX57_double2_2 4 rfl rfl)
theorem dX57_double2_53 : decode cX57_double2 53 = .ok (.iaload, 1) := dk_46 (dk_at dksX57_double2_2 5 rfl rfl)
theorem dX57_double2_54 : decode cX57_double2 54 = .ok (.goto 18, 3) := dk_167 0 18 (dk_at dksX57_double2_2 6 rfl rfl)
theorem dX57_double2_57 : decode cX57_double2 57 = .ok (.iload_n 2, 1) := dk_28 (dk_at dksX57_double2_2 9 rfl rfl)
theorem dX57_double2_58 : decode cX57_double2 58 = .ok (.iconst 1, 1) := dk_4 (dk_at dksX57_double2_2 10 rfl rfl)
theorem dX57_double2_59 : decode cX57_double2 59 = .ok (.if_icmp .ne 12, 3) := dk_160 0 12 (dk_at dksX57_double2_2 11 rfl rfl)
theorem dX57_double2_62 : decode cX57_double2 62 = .ok (.aload_n 0, 1) := dk_42 (dk_at dksX57_double2_2 14 rfl rfl)
theorem dX57_double2_63 : decode cX57_double2 63 = .ok (.getfield 66, 3) := dk_180 0 66 (dk_at dksX57_double2_2 15 rfl rfl)
theorem dX57_double2_66 : decode cX57_double2 66 = .ok (.iload_n 1, 1) := dk_27 (dk_at dksX57_double2_2 18 rfl rfl)
theorem dX57_double2_67 : decode cX57_double2 67 = .ok (.iaload, 1) := dk_46 (dk_at dksX57_double2_2 19 rfl rfl)
theorem dX57_double2_68 : decode cX57_double2 68 = .ok (.goto 4, 3) := dk_167 0 4 (dk_at dksX57_double2_2 20 rfl rfl)
theorem dX57_double2_71 : decode cX57_double2 71 = .ok (.iload_n 3, 1) := dk_29 (dk_at dksX57_double2_2 23 rfl rfl)
theorem dX57_double2_72 : decode cX57_double2 72 = .ok (.ireturn, 1) := dk_172 (dk_at dksX57_double2_3 0 rfl rfl)
theorem dX57_double2_73 : decode cX57_double2 73 = .ok (.iload_n 2, 1) := dk_28 (dk_at dksX57_double2_3 1 rfl rfl)
theorem dX57_double2_74 : decode cX57_double2 74 = .ok (.iconst 3, 1) := dk_6 (dk_at dksX57_double2_3 2 rfl rfl)
theorem dX57_double2_75 : decode cX57_double2 75 = .ok (.isub, 1) := dk_100 (dk_at dksX57_double2_3 3 rfl rfl)
theorem dX57_double2_76 : decode cX57_double2 76 = .ok (.iload_n 3, 1) := dk_29 (dk_at dksX57_double2_3 4 rfl rfl)
theorem dX57_double2_77 : decode cX57_double2 77 = .ok (.if_icmp .lt 5, 3) := dk_161 0 5 (dk_at dksX57_double2_3 5 rfl rfl)
theorem dX57_double2_80 : decode cX57_double2 80 = .ok (.iconst (-1), 1) := dk_2 (dk_at dksX57_double2_3 8 rfl rfl)
theorem dX57_double2_81 : decode cX57_double2 81 = .ok (.ireturn, 1) := dk_172 (dk_at dksX57_double2_3 9 rfl rfl)
theorem dX57_double2_82 : decode cX57_double2 82 = .ok (.aload_n 0, 1) := dk_42 (dk_at dksX57_double2_3 10 rfl rfl)
theorem dX57_double2_83 : decode cX57_double2 83 = .ok (.getfield 60, 3) := dk_180 0 60 (dk_at dksX57_double2_3 11 rfl rfl)
theorem dX57_double2_86 : decode cX57_double2 86 = .ok (.iload_n 1, 1) := dk_27 (dk_at dksX57_double2_3 14 rfl rfl)
theorem dX57_double2_87 : decode cX57_double2 87 = .ok (.laload, 1) := dk_47 (dk_at dksX57_double2_3 15 rfl rfl)
theorem dX57_double2_88 : decode cX57_double2 88 = .ok (.lstore 4, 2) := dk_55 4 (dk_at dksX57_double2_3 16 rfl rfl)
theorem dX57_double2_90 : decode cX57_double2 90 = .ok (.iload_n 3, 1) := dk_29 (dk_at dksX57_double2_3 18 rfl rfl)
theorem dX57_double2_91 : decode cX57_double2 91 = .ok (.iconst 1, 1) := dk_4 (dk_at dksX57_double2_3 19 rfl rfl)
theorem dX57_double2_92 : decode cX57_double2 92 = .ok (.isub, 1) := dk_100 (dk_at dksX57_double2_3 20 rfl rfl)
theorem dX57_double2_93 : decode cX57_double2 93 = .ok (.istore 6, 2) := dk_54 6 (dk_at dksX57_double2_3 21 rfl rfl)
theorem dX57_double2_95 : decode cX57_double2 95 = .ok (.iload 6, 2) := dk_21 6 (dk_at dksX57_double2_4 0 rfl rfl)
theorem dX57_double2_97 : decode cX57_double2 97 = .ok (.iload_n 2, 1) := dk_28 (dk_at dksX57_double2_4 2 rfl rfl)
theorem dX57_double2_98 : decode cX57_double2 98 = .ok (.iconst 3, 1) := dk_6 (dk_at dksX57_double2_4 3 rfl rfl)
theorem dX57_double2_99 : decode cX57_double2 99 = .ok (.isub, 1) := dk_100 (dk_at dksX57_double2_4 4 rfl rfl)
theorem dX57_double2_100 : decode cX57_double2 100 = .ok (.if_icmp .le 17, 3) := dk_164 0 17 (dk_at dksX57_double2_4 5 rfl rfl)
theorem dX57_double2_103 : decode cX57_double2 103 = .ok (.lload 4, 2) := dk_22 4 (dk_at dksX57_double2_4 8 rfl rfl)
theorem dX57_double2_105 : decode cX57_double2 105 = .ok (.ldc2_w 115, 3) := dk_20 0 115 (dk_at dksX57_double2_4 10 rfl rfl)
theorem dX57_double2_108 : decode cX57_double2 108 = .ok (.ldiv, 1) := dk_109 (dk_at dksX57_double2_4 13 rfl rfl)
theorem dX57_double2_109 : decode cX57_double2 109 = .ok (.lstore 4, 2) := dk_55 4 (dk_at dksX57_double2_4 14 rfl rfl)
theorem dX57_double2_111 : decode cX57_double2 111 = .ok (.iinc 6 (-1), 3) := dk_132 6 255 (dk_at dksX57_double2_4 16 rfl rfl)
theorem dX57_double2_114 : decode cX57_double2 114 = .ok (.goto (-19), 3) := dk_167 255 237 (dk_at dksX57_double2_4 19 rfl rfl)
theorem dX57_double2_117 : decode cX57_double2 117 = .ok (.lload 4, 2) := dk_22 4 (dk_at dksX57_double2_4 22 rfl rfl)
theorem dX57_double2_119 : decode cX57_double2 119 = .ok (.ldc2_w 115, 3) := dk_20 0 115 (dk_at dksX57_double2_5 0 rfl rfl)
theorem dX57_double2_122 : decode cX57_double2 122 = .ok (.lrem, 1) := dk_113 (dk_at dksX57_double2_5 3 rfl rfl)
theorem dX57_double2_123 : decode cX57_double2 123 = .ok (.l2i, 1) := dk_136 (dk_at dksX57_double2_5 4 rfl rfl)
theorem dX57_double2_124 : decode cX57_double2 124 = .ok (.ireturn, 1) := dk_172 (dk_at dksX57_double2_5 5 rfl rfl)
abbrev cX57_decimals : ByteArray := prog_59_method_30_code
def yX57_decimals : MethodName := ⟨RX57, "decimals", "(J)I"⟩
def dkwX57_decimals_1 : List UInt8 := [28, 172]
abbrev dktX57_decimals_1 : List UInt8 := dkwX57_decimals_1 ++ []
def dkwX57_decimals_0 : List UInt8 := [4, 61, 30, 66, 33, 20, 0, 177, 148, 158, 0, 15, 132, 2, 1, 33, 20, 0, 115, 109, 66, 167, 255, 239]
abbrev dktX57_decimals_0 : List UInt8 := dkwX57_decimals_0 ++ dktX57_decimals_1
theorem dksX57_decimals_0 : cX57_decimals.data.toList.drop 0 = dktX57_decimals_0 := by decide +kernel
theorem dksX57_decimals_1 : cX57_decimals.data.toList.drop 24 = dktX57_decimals_1 := dk_seg dksX57_decimals_0 24 rfl rfl
theorem dX57_decimals_0 : decode cX57_decimals 0 = .ok (.iconst 1, 1) := dk_4 (dk_at dksX57_decimals_0 0 rfl rfl)
theorem dX57_decimals_1 : decode cX57_decimals 1 = .ok (.istore_n 2, 1) := dk_61 (dk_at dksX57_decimals_0 1 rfl rfl)
theorem dX57_decimals_2 : decode cX57_decimals 2 = .ok (.lload_n 0, 1) := dk_30 (dk_at dksX57_decimals_0 2 rfl rfl)
theorem dX57_decimals_3 : decode cX57_decimals 3 = .ok (.lstore_n 3, 1) := dk_66 (dk_at dksX57_decimals_0 3 rfl rfl)
theorem dX57_decimals_4 : decode cX57_decimals 4 = .ok (.lload_n 3, 1) := dk_33 (dk_at dksX57_decimals_0 4 rfl rfl)
theorem dX57_decimals_5 : decode cX57_decimals 5 = .ok (.ldc2_w 177, 3) := dk_20 0 177 (dk_at dksX57_decimals_0 5 rfl rfl)
theorem dX57_decimals_8 : decode cX57_decimals 8 = .ok (.lcmp, 1) := dk_148 (dk_at dksX57_decimals_0 8 rfl rfl)
theorem dX57_decimals_9 : decode cX57_decimals 9 = .ok (.ifCond .le 15, 3) := dk_158 0 15 (dk_at dksX57_decimals_0 9 rfl rfl)
theorem dX57_decimals_12 : decode cX57_decimals 12 = .ok (.iinc 2 1, 3) := dk_132 2 1 (dk_at dksX57_decimals_0 12 rfl rfl)
theorem dX57_decimals_15 : decode cX57_decimals 15 = .ok (.lload_n 3, 1) := dk_33 (dk_at dksX57_decimals_0 15 rfl rfl)
theorem dX57_decimals_16 : decode cX57_decimals 16 = .ok (.ldc2_w 115, 3) := dk_20 0 115 (dk_at dksX57_decimals_0 16 rfl rfl)
theorem dX57_decimals_19 : decode cX57_decimals 19 = .ok (.ldiv, 1) := dk_109 (dk_at dksX57_decimals_0 19 rfl rfl)
theorem dX57_decimals_20 : decode cX57_decimals 20 = .ok (.lstore_n 3, 1) := dk_66 (dk_at dksX57_decimals_0 20 rfl rfl)
theorem dX57_decimals_21 : decode cX57_decimals 21 = .ok (.goto (-17), 3) := dk_167 255 239 (dk_at dksX57_decimals_0 21 rfl rfl)
theorem dX57_decimals_24 : decode cX57_decimals 24 = .ok (.iload_n 2, 1) := dk_28 (dk_at dksX57_decimals_1 0 rfl rfl)
theorem dX57_decimals_25 : decode cX57_decimals 25 = .ok (.ireturn, 1) := dk_172 (dk_at dksX57_decimals_1 1 rfl rfl)
abbrev cX57_mark : ByteArray := prog_59_method_16_code
def yX57_mark : MethodName := ⟨RX57, "mark", "(JJJ)Z"⟩
def dkwX57_mark_3 : List UInt8 := [10, 97, 105, 20, 0, 129, 113, 22, 5, 148, 154, 0, 7, 4, 167, 0, 4, 3, 172]
abbrev dktX57_mark_3 : List UInt8 := dkwX57_mark_3 ++ []
def dkwX57_mark_2 : List UInt8 := [20, 0, 123, 113, 55, 9, 22, 7, 20, 0, 125, 22, 9, 105, 97, 22, 7, 20, 0, 127, 22, 9, 105, 97]
abbrev dktX57_mark_2 : List UInt8 := dkwX57_mark_2 ++ dktX57_mark_3
def dkwX57_mark_1 : List UInt8 := [153, 0, 14, 22, 5, 20, 0, 117, 184, 0, 87, 154, 0, 5, 3, 172, 31, 20, 0, 123, 113, 55, 7, 33]
abbrev dktX57_mark_1 : List UInt8 := dkwX57_mark_1 ++ dktX57_mark_2
def dkwX57_mark_0 : List UInt8 := [42, 3, 181, 0, 81, 31, 20, 0, 117, 184, 0, 87, 153, 0, 24, 33, 20, 0, 117, 184, 0, 87]
abbrev dktX57_mark_0 : List UInt8 := dkwX57_mark_0 ++ dktX57_mark_1
theorem dksX57_mark_0 : cX57_mark.data.toList.drop 0 = dktX57_mark_0 := by decide +kernel
theorem dksX57_mark_1 : cX57_mark.data.toList.drop 22 = dktX57_mark_1 := dk_seg dksX57_mark_0 22 rfl rfl
theorem dksX57_mark_2 : cX57_mark.data.toList.drop 46 = dktX57_mark_2 := dk_seg dksX57_mark_1 24 rfl rfl
theorem dksX57_mark_3 : cX57_mark.data.toList.drop 70 = dktX57_mark_3 := dk_seg dksX57_mark_2 24 rfl rfl
theorem dX57_mark_0 : decode cX57_mark 0 = .ok (.aload_n 0, 1) := dk_42 (dk_at dksX57_mark_0 0 rfl rfl)
theorem dX57_mark_1 : decode cX57_mark 1 = .ok (.iconst 0, 1) := dk_3 (dk_at dksX57_mark_0 1 rfl rfl)
theorem dX57_mark_2 : decode cX57_mark 2 = .ok (.putfield 81, 3) := dk_181 0 81 (dk_at dksX57_mark_0 2 rfl rfl)
theorem dX57_mark_5 : decode cX57_mark 5 = .ok (.lload_n 1, 1) := dk_31 (dk_at dksX57_mark_0 5 rfl rfl)
theorem dX57_mark_6 : decode cX57_mark 6 = .ok (.ldc2_w 117, 3) := dk_20 0 117 (dk_at dksX57_mark_0 6 rfl rfl)
theorem dX57_mark_9 : decode cX57_mark 9 = .ok (.invokestatic 87, 3) := dk_184 0 87 (dk_at dksX57_mark_0 9 rfl rfl)
theorem dX57_mark_12 : decode cX57_mark 12 = .ok (.ifCond .eq 24, 3) := dk_153 0 24 (dk_at dksX57_mark_0 12 rfl rfl)
theorem dX57_mark_15 : decode cX57_mark 15 = .ok (.lload_n 3, 1) := dk_33 (dk_at dksX57_mark_0 15 rfl rfl)
theorem dX57_mark_16 : decode cX57_mark 16 = .ok (.ldc2_w 117, 3) := dk_20 0 117 (dk_at dksX57_mark_0 16 rfl rfl)
theorem dX57_mark_19 : decode cX57_mark 19 = .ok (.invokestatic 87, 3) := dk_184 0 87 (dk_at dksX57_mark_0 19 rfl rfl)
theorem dX57_mark_22 : decode cX57_mark 22 = .ok (.ifCond .eq 14, 3) := dk_153 0 14 (dk_at dksX57_mark_1 0 rfl rfl)
theorem dX57_mark_25 : decode cX57_mark 25 = .ok (.lload 5, 2) := dk_22 5 (dk_at dksX57_mark_1 3 rfl rfl)
theorem dX57_mark_27 : decode cX57_mark 27 = .ok (.ldc2_w 117, 3) := dk_20 0 117 (dk_at dksX57_mark_1 5 rfl rfl)
theorem dX57_mark_30 : decode cX57_mark 30 = .ok (.invokestatic 87, 3) := dk_184 0 87 (dk_at dksX57_mark_1 8 rfl rfl)
theorem dX57_mark_33 : decode cX57_mark 33 = .ok (.ifCond .ne 5, 3) := dk_154 0 5 (dk_at dksX57_mark_1 11 rfl rfl)
theorem dX57_mark_36 : decode cX57_mark 36 = .ok (.iconst 0, 1) := dk_3 (dk_at dksX57_mark_1 14 rfl rfl)
theorem dX57_mark_37 : decode cX57_mark 37 = .ok (.ireturn, 1) := dk_172 (dk_at dksX57_mark_1 15 rfl rfl)
theorem dX57_mark_38 : decode cX57_mark 38 = .ok (.lload_n 1, 1) := dk_31 (dk_at dksX57_mark_1 16 rfl rfl)
theorem dX57_mark_39 : decode cX57_mark 39 = .ok (.ldc2_w 123, 3) := dk_20 0 123 (dk_at dksX57_mark_1 17 rfl rfl)
theorem dX57_mark_42 : decode cX57_mark 42 = .ok (.lrem, 1) := dk_113 (dk_at dksX57_mark_1 20 rfl rfl)
theorem dX57_mark_43 : decode cX57_mark 43 = .ok (.lstore 7, 2) := dk_55 7 (dk_at dksX57_mark_1 21 rfl rfl)
theorem dX57_mark_45 : decode cX57_mark 45 = .ok (.lload_n 3, 1) := dk_33 (dk_at dksX57_mark_1 23 rfl rfl)
theorem dX57_mark_46 : decode cX57_mark 46 = .ok (.ldc2_w 123, 3) := dk_20 0 123 (dk_at dksX57_mark_2 0 rfl rfl)
theorem dX57_mark_49 : decode cX57_mark 49 = .ok (.lrem, 1) := dk_113 (dk_at dksX57_mark_2 3 rfl rfl)
theorem dX57_mark_50 : decode cX57_mark 50 = .ok (.lstore 9, 2) := dk_55 9 (dk_at dksX57_mark_2 4 rfl rfl)
theorem dX57_mark_52 : decode cX57_mark 52 = .ok (.lload 7, 2) := dk_22 7 (dk_at dksX57_mark_2 6 rfl rfl)
theorem dX57_mark_54 : decode cX57_mark 54 = .ok (.ldc2_w 125, 3) := dk_20 0 125 (dk_at dksX57_mark_2 8 rfl rfl)
theorem dX57_mark_57 : decode cX57_mark 57 = .ok (.lload 9, 2) := dk_22 9 (dk_at dksX57_mark_2 11 rfl rfl)
theorem dX57_mark_59 : decode cX57_mark 59 = .ok (.lmul, 1) := dk_105 (dk_at dksX57_mark_2 13 rfl rfl)
theorem dX57_mark_60 : decode cX57_mark 60 = .ok (.ladd, 1) := dk_97 (dk_at dksX57_mark_2 14 rfl rfl)
theorem dX57_mark_61 : decode cX57_mark 61 = .ok (.lload 7, 2) := dk_22 7 (dk_at dksX57_mark_2 15 rfl rfl)
theorem dX57_mark_63 : decode cX57_mark 63 = .ok (.ldc2_w 127, 3) := dk_20 0 127 (dk_at dksX57_mark_2 17 rfl rfl)
theorem dX57_mark_66 : decode cX57_mark 66 = .ok (.lload 9, 2) := dk_22 9 (dk_at dksX57_mark_2 20 rfl rfl)
theorem dX57_mark_68 : decode cX57_mark 68 = .ok (.lmul, 1) := dk_105 (dk_at dksX57_mark_2 22 rfl rfl)
theorem dX57_mark_69 : decode cX57_mark 69 = .ok (.ladd, 1) := dk_97 (dk_at dksX57_mark_2 23 rfl rfl)
theorem dX57_mark_70 : decode cX57_mark 70 = .ok (.lconst 1, 1) := dk_10 (dk_at dksX57_mark_3 0 rfl rfl)
theorem dX57_mark_71 : decode cX57_mark 71 = .ok (.ladd, 1) := dk_97 (dk_at dksX57_mark_3 1 rfl rfl)
theorem dX57_mark_72 : decode cX57_mark 72 = .ok (.lmul, 1) := dk_105 (dk_at dksX57_mark_3 2 rfl rfl)
theorem dX57_mark_73 : decode cX57_mark 73 = .ok (.ldc2_w 129, 3) := dk_20 0 129 (dk_at dksX57_mark_3 3 rfl rfl)
theorem dX57_mark_76 : decode cX57_mark 76 = .ok (.lrem, 1) := dk_113 (dk_at dksX57_mark_3 6 rfl rfl)
theorem dX57_mark_77 : decode cX57_mark 77 = .ok (.lload 5, 2) := dk_22 5 (dk_at dksX57_mark_3 7 rfl rfl)
theorem dX57_mark_79 : decode cX57_mark 79 = .ok (.lcmp, 1) := dk_148 (dk_at dksX57_mark_3 9 rfl rfl)
theorem dX57_mark_80 : decode cX57_mark 80 = .ok (.ifCond .ne 7, 3) := dk_154 0 7 (dk_at dksX57_mark_3 10 rfl rfl)
theorem dX57_mark_83 : decode cX57_mark 83 = .ok (.iconst 1, 1) := dk_4 (dk_at dksX57_mark_3 13 rfl rfl)
theorem dX57_mark_84 : decode cX57_mark 84 = .ok (.goto 4, 3) := dk_167 0 4 (dk_at dksX57_mark_3 14 rfl rfl)
theorem dX57_mark_87 : decode cX57_mark 87 = .ok (.iconst 0, 1) := dk_3 (dk_at dksX57_mark_3 17 rfl rfl)
theorem dX57_mark_88 : decode cX57_mark 88 = .ok (.ireturn, 1) := dk_172 (dk_at dksX57_mark_3 18 rfl rfl)
abbrev cX57_coupon : ByteArray := prog_59_method_32_code
def yX57_coupon : MethodName := ⟨RX57, "coupon", "(I)I"⟩
def dkwX57_coupon_4 : List UInt8 := [42, 180, 0, 183, 4, 100, 172]
abbrev dktX57_coupon_4 : List UInt8 := dkwX57_coupon_4 ++ []
def dkwX57_coupon_3 : List UInt8 := [172, 42, 180, 0, 69, 42, 180, 0, 183, 16, 25, 28, 104, 79, 42, 89, 180, 0, 183, 4, 96, 181, 0, 183]
abbrev dktX57_coupon_3 : List UInt8 := dkwX57_coupon_3 ++ dktX57_coupon_4
def dkwX57_coupon_2 : List UInt8 := [154, 0, 13, 42, 180, 0, 48, 29, 4, 84, 132, 2, 1, 132, 3, 1, 167, 255, 216, 28, 154, 0, 5, 2]
abbrev dktX57_coupon_2 : List UInt8 := dkwX57_coupon_2 ++ dktX57_coupon_3
def dkwX57_coupon_1 : List UInt8 := [42, 180, 0, 140, 162, 0, 38, 42, 180, 0, 36, 29, 46, 27, 160, 0, 22, 42, 180, 0, 48, 29, 51]
abbrev dktX57_coupon_1 : List UInt8 := dkwX57_coupon_1 ++ dktX57_coupon_2
def dkwX57_coupon_0 : List UInt8 := [42, 27, 182, 0, 136, 153, 0, 12, 42, 180, 0, 23, 27, 51, 153, 0, 5, 2, 172, 3, 61, 3, 62, 29]
abbrev dktX57_coupon_0 : List UInt8 := dkwX57_coupon_0 ++ dktX57_coupon_1
theorem dksX57_coupon_0 : cX57_coupon.data.toList.drop 0 = dktX57_coupon_0 := by decide +kernel
theorem dksX57_coupon_1 : cX57_coupon.data.toList.drop 24 = dktX57_coupon_1 := dk_seg dksX57_coupon_0 24 rfl rfl
theorem dksX57_coupon_2 : cX57_coupon.data.toList.drop 47 = dktX57_coupon_2 := dk_seg dksX57_coupon_1 23 rfl rfl
theorem dksX57_coupon_3 : cX57_coupon.data.toList.drop 71 = dktX57_coupon_3 := dk_seg dksX57_coupon_2 24 rfl rfl
theorem dksX57_coupon_4 : cX57_coupon.data.toList.drop 95 = dktX57_coupon_4 := dk_seg dksX57_coupon_3 24 rfl rfl
theorem dX57_coupon_0 : decode cX57_coupon 0 = .ok (.aload_n 0, 1) := dk_42 (dk_at dksX57_coupon_0 0 rfl rfl)
theorem dX57_coupon_1 : decode cX57_coupon 1 = .ok (.iload_n 1, 1) := dk_27 (dk_at dksX57_coupon_0 1 rfl rfl)
theorem dX57_coupon_2 : decode cX57_coupon 2 = .ok (.invokevirtual 136, 3) := dk_182 0 136 (dk_at dksX57_coupon_0 2 rfl rfl)
theorem dX57_coupon_5 : decode cX57_coupon 5 = .ok (.ifCond .eq 12, 3) := dk_153 0 12 (dk_at dksX57_coupon_0 5 rfl rfl)
theorem dX57_coupon_8 : decode cX57_coupon 8 = .ok (.aload_n 0, 1) := dk_42 (dk_at dksX57_coupon_0 8 rfl rfl)
theorem dX57_coupon_9 : decode cX57_coupon 9 = .ok (.getfield 23, 3) := dk_180 0 23 (dk_at dksX57_coupon_0 9 rfl rfl)
theorem dX57_coupon_12 : decode cX57_coupon 12 = .ok (.iload_n 1, 1) := dk_27 (dk_at dksX57_coupon_0 12 rfl rfl)
theorem dX57_coupon_13 : decode cX57_coupon 13 = .ok (.baload, 1) := dk_51 (dk_at dksX57_coupon_0 13 rfl rfl)
theorem dX57_coupon_14 : decode cX57_coupon 14 = .ok (.ifCond .eq 5, 3) := dk_153 0 5 (dk_at dksX57_coupon_0 14 rfl rfl)
theorem dX57_coupon_17 : decode cX57_coupon 17 = .ok (.iconst (-1), 1) := dk_2 (dk_at dksX57_coupon_0 17 rfl rfl)
theorem dX57_coupon_18 : decode cX57_coupon 18 = .ok (.ireturn, 1) := dk_172 (dk_at dksX57_coupon_0 18 rfl rfl)
theorem dX57_coupon_19 : decode cX57_coupon 19 = .ok (.iconst 0, 1) := dk_3 (dk_at dksX57_coupon_0 19 rfl rfl)
theorem dX57_coupon_20 : decode cX57_coupon 20 = .ok (.istore_n 2, 1) := dk_61 (dk_at dksX57_coupon_0 20 rfl rfl)
theorem dX57_coupon_21 : decode cX57_coupon 21 = .ok (.iconst 0, 1) := dk_3 (dk_at dksX57_coupon_0 21 rfl rfl)
theorem dX57_coupon_22 : decode cX57_coupon 22 = .ok (.istore_n 3, 1) := dk_62 (dk_at dksX57_coupon_0 22 rfl rfl)
theorem dX57_coupon_23 : decode cX57_coupon 23 = .ok (.iload_n 3, 1) := dk_29 (dk_at dksX57_coupon_0 23 rfl rfl)
theorem dX57_coupon_24 : decode cX57_coupon 24 = .ok (.aload_n 0, 1) := dk_42 (dk_at dksX57_coupon_1 0 rfl rfl)
theorem dX57_coupon_25 : decode cX57_coupon 25 = .ok (.getfield 140, 3) := dk_180 0 140 (dk_at dksX57_coupon_1 1 rfl rfl)
theorem dX57_coupon_28 : decode cX57_coupon 28 = .ok (.if_icmp .ge 38, 3) := dk_162 0 38 (dk_at dksX57_coupon_1 4 rfl rfl)
theorem dX57_coupon_31 : decode cX57_coupon 31 = .ok (.aload_n 0, 1) := dk_42 (dk_at dksX57_coupon_1 7 rfl rfl)
theorem dX57_coupon_32 : decode cX57_coupon 32 = .ok (.getfield 36, 3) := dk_180 0 36 (dk_at dksX57_coupon_1 8 rfl rfl)
theorem dX57_coupon_35 : decode cX57_coupon 35 = .ok (.iload_n 3, 1) := dk_29 (dk_at dksX57_coupon_1 11 rfl rfl)
theorem dX57_coupon_36 : decode cX57_coupon 36 = .ok (.iaload, 1) := dk_46 (dk_at dksX57_coupon_1 12 rfl rfl)
theorem dX57_coupon_37 : decode cX57_coupon 37 = .ok (.iload_n 1, 1) := dk_27 (dk_at dksX57_coupon_1 13 rfl rfl)
theorem dX57_coupon_38 : decode cX57_coupon 38 = .ok (.if_icmp .ne 22, 3) := dk_160 0 22 (dk_at dksX57_coupon_1 14 rfl rfl)
theorem dX57_coupon_41 : decode cX57_coupon 41 = .ok (.aload_n 0, 1) := dk_42 (dk_at dksX57_coupon_1 17 rfl rfl)
theorem dX57_coupon_42 : decode cX57_coupon 42 = .ok (.getfield 48, 3) := dk_180 0 48 (dk_at dksX57_coupon_1 18 rfl rfl)
theorem dX57_coupon_45 : decode cX57_coupon 45 = .ok (.iload_n 3, 1) := dk_29 (dk_at dksX57_coupon_1 21 rfl rfl)
theorem dX57_coupon_46 : decode cX57_coupon 46 = .ok (.baload, 1) := dk_51 (dk_at dksX57_coupon_1 22 rfl rfl)
theorem dX57_coupon_47 : decode cX57_coupon 47 = .ok (.ifCond .ne 13, 3) := dk_154 0 13 (dk_at dksX57_coupon_2 0 rfl rfl)
theorem dX57_coupon_50 : decode cX57_coupon 50 = .ok (.aload_n 0, 1) := dk_42 (dk_at dksX57_coupon_2 3 rfl rfl)
theorem dX57_coupon_51 : decode cX57_coupon 51 = .ok (.getfield 48, 3) := dk_180 0 48 (dk_at dksX57_coupon_2 4 rfl rfl)
theorem dX57_coupon_54 : decode cX57_coupon 54 = .ok (.iload_n 3, 1) := dk_29 (dk_at dksX57_coupon_2 7 rfl rfl)
theorem dX57_coupon_55 : decode cX57_coupon 55 = .ok (.iconst 1, 1) := dk_4 (dk_at dksX57_coupon_2 8 rfl rfl)
theorem dX57_coupon_56 : decode cX57_coupon 56 = .ok (.bastore, 1) := dk_84 (dk_at dksX57_coupon_2 9 rfl rfl)
theorem dX57_coupon_57 : decode cX57_coupon 57 = .ok (.iinc 2 1, 3) := dk_132 2 1 (dk_at dksX57_coupon_2 10 rfl rfl)
theorem dX57_coupon_60 : decode cX57_coupon 60 = .ok (.iinc 3 1, 3) := dk_132 3 1 (dk_at dksX57_coupon_2 13 rfl rfl)
theorem dX57_coupon_63 : decode cX57_coupon 63 = .ok (.goto (-40), 3) := dk_167 255 216 (dk_at dksX57_coupon_2 16 rfl rfl)
theorem dX57_coupon_66 : decode cX57_coupon 66 = .ok (.iload_n 2, 1) := dk_28 (dk_at dksX57_coupon_2 19 rfl rfl)
theorem dX57_coupon_67 : decode cX57_coupon 67 = .ok (.ifCond .ne 5, 3) := dk_154 0 5 (dk_at dksX57_coupon_2 20 rfl rfl)
theorem dX57_coupon_70 : decode cX57_coupon 70 = .ok (.iconst (-1), 1) := dk_2 (dk_at dksX57_coupon_2 23 rfl rfl)
theorem dX57_coupon_71 : decode cX57_coupon 71 = .ok (.ireturn, 1) := dk_172 (dk_at dksX57_coupon_3 0 rfl rfl)
theorem dX57_coupon_72 : decode cX57_coupon 72 = .ok (.aload_n 0, 1) := dk_42 (dk_at dksX57_coupon_3 1 rfl rfl)
theorem dX57_coupon_73 : decode cX57_coupon 73 = .ok (.getfield 69, 3) := dk_180 0 69 (dk_at dksX57_coupon_3 2 rfl rfl)
theorem dX57_coupon_76 : decode cX57_coupon 76 = .ok (.aload_n 0, 1) := dk_42 (dk_at dksX57_coupon_3 5 rfl rfl)
theorem dX57_coupon_77 : decode cX57_coupon 77 = .ok (.getfield 183, 3) := dk_180 0 183 (dk_at dksX57_coupon_3 6 rfl rfl)
theorem dX57_coupon_80 : decode cX57_coupon 80 = .ok (.bipush 25, 2) := dk_16 25 (dk_at dksX57_coupon_3 9 rfl rfl)
theorem dX57_coupon_82 : decode cX57_coupon 82 = .ok (.iload_n 2, 1) := dk_28 (dk_at dksX57_coupon_3 11 rfl rfl)
theorem dX57_coupon_83 : decode cX57_coupon 83 = .ok (.imul, 1) := dk_104 (dk_at dksX57_coupon_3 12 rfl rfl)
theorem dX57_coupon_84 : decode cX57_coupon 84 = .ok (.iastore, 1) := dk_79 (dk_at dksX57_coupon_3 13 rfl rfl)
theorem dX57_coupon_85 : decode cX57_coupon 85 = .ok (.aload_n 0, 1) := dk_42 (dk_at dksX57_coupon_3 14 rfl rfl)
theorem dX57_coupon_86 : decode cX57_coupon 86 = .ok (.dup, 1) := dk_89 (dk_at dksX57_coupon_3 15 rfl rfl)
theorem dX57_coupon_87 : decode cX57_coupon 87 = .ok (.getfield 183, 3) := dk_180 0 183 (dk_at dksX57_coupon_3 16 rfl rfl)
theorem dX57_coupon_90 : decode cX57_coupon 90 = .ok (.iconst 1, 1) := dk_4 (dk_at dksX57_coupon_3 19 rfl rfl)
theorem dX57_coupon_91 : decode cX57_coupon 91 = .ok (.iadd, 1) := dk_96 (dk_at dksX57_coupon_3 20 rfl rfl)
theorem dX57_coupon_92 : decode cX57_coupon 92 = .ok (.putfield 183, 3) := dk_181 0 183 (dk_at dksX57_coupon_3 21 rfl rfl)
theorem dX57_coupon_95 : decode cX57_coupon 95 = .ok (.aload_n 0, 1) := dk_42 (dk_at dksX57_coupon_4 0 rfl rfl)
theorem dX57_coupon_96 : decode cX57_coupon 96 = .ok (.getfield 183, 3) := dk_180 0 183 (dk_at dksX57_coupon_4 1 rfl rfl)
theorem dX57_coupon_99 : decode cX57_coupon 99 = .ok (.iconst 1, 1) := dk_4 (dk_at dksX57_coupon_4 4 rfl rfl)
theorem dX57_coupon_100 : decode cX57_coupon 100 = .ok (.isub, 1) := dk_100 (dk_at dksX57_coupon_4 5 rfl rfl)
theorem dX57_coupon_101 : decode cX57_coupon 101 = .ok (.ireturn, 1) := dk_172 (dk_at dksX57_coupon_4 6 rfl rfl)
abbrev cX57_redeem : ByteArray := prog_59_method_33_code
def yX57_redeem : MethodName := ⟨RX57, "redeem", "(II)Z"⟩
def dkwX57_redeem_2 : List UInt8 := [42, 180, 0, 75, 28, 92, 47, 42, 180, 0, 69, 27, 46, 133, 97, 80, 4, 172]
abbrev dktX57_redeem_2 : List UInt8 := dkwX57_redeem_2 ++ []
def dkwX57_redeem_1 : List UInt8 := [184, 0, 87, 153, 0, 12, 42, 180, 0, 72, 27, 51, 153, 0, 5, 3, 172, 42, 180, 0, 72, 27, 4, 84]
abbrev dktX57_redeem_1 : List UInt8 := dkwX57_redeem_1 ++ dktX57_redeem_2
def dkwX57_redeem_0 : List UInt8 := [42, 3, 181, 0, 81, 27, 155, 0, 31, 27, 42, 180, 0, 183, 162, 0, 23, 28, 133, 20, 0, 186]
abbrev dktX57_redeem_0 : List UInt8 := dkwX57_redeem_0 ++ dktX57_redeem_1
theorem dksX57_redeem_0 : cX57_redeem.data.toList.drop 0 = dktX57_redeem_0 := by decide +kernel
theorem dksX57_redeem_1 : cX57_redeem.data.toList.drop 22 = dktX57_redeem_1 := dk_seg dksX57_redeem_0 22 rfl rfl
theorem dksX57_redeem_2 : cX57_redeem.data.toList.drop 46 = dktX57_redeem_2 := dk_seg dksX57_redeem_1 24 rfl rfl
theorem dX57_redeem_0 : decode cX57_redeem 0 = .ok (.aload_n 0, 1) := dk_42 (dk_at dksX57_redeem_0 0 rfl rfl)
theorem dX57_redeem_1 : decode cX57_redeem 1 = .ok (.iconst 0, 1) := dk_3 (dk_at dksX57_redeem_0 1 rfl rfl)
theorem dX57_redeem_2 : decode cX57_redeem 2 = .ok (.putfield 81, 3) := dk_181 0 81 (dk_at dksX57_redeem_0 2 rfl rfl)
theorem dX57_redeem_5 : decode cX57_redeem 5 = .ok (.iload_n 1, 1) := dk_27 (dk_at dksX57_redeem_0 5 rfl rfl)
theorem dX57_redeem_6 : decode cX57_redeem 6 = .ok (.ifCond .lt 31, 3) := dk_155 0 31 (dk_at dksX57_redeem_0 6 rfl rfl)
theorem dX57_redeem_9 : decode cX57_redeem 9 = .ok (.iload_n 1, 1) := dk_27 (dk_at dksX57_redeem_0 9 rfl rfl)
theorem dX57_redeem_10 : decode cX57_redeem 10 = .ok (.aload_n 0, 1) := dk_42 (dk_at dksX57_redeem_0 10 rfl rfl)
theorem dX57_redeem_11 : decode cX57_redeem 11 = .ok (.getfield 183, 3) := dk_180 0 183 (dk_at dksX57_redeem_0 11 rfl rfl)
theorem dX57_redeem_14 : decode cX57_redeem 14 = .ok (.if_icmp .ge 23, 3) := dk_162 0 23 (dk_at dksX57_redeem_0 14 rfl rfl)
theorem dX57_redeem_17 : decode cX57_redeem 17 = .ok (.iload_n 2, 1) := dk_28 (dk_at dksX57_redeem_0 17 rfl rfl)
theorem dX57_redeem_18 : decode cX57_redeem 18 = .ok (.i2l, 1) := dk_133 (dk_at dksX57_redeem_0 18 rfl rfl)
theorem dX57_redeem_19 : decode cX57_redeem 19 = .ok (.ldc2_w 186, 3) := dk_20 0 186 (dk_at dksX57_redeem_0 19 rfl rfl)
theorem dX57_redeem_22 : decode cX57_redeem 22 = .ok (.invokestatic 87, 3) := dk_184 0 87 (dk_at dksX57_redeem_1 0 rfl rfl)
theorem dX57_redeem_25 : decode cX57_redeem 25 = .ok (.ifCond .eq 12, 3) := dk_153 0 12 (dk_at dksX57_redeem_1 3 rfl rfl)
theorem dX57_redeem_28 : decode cX57_redeem 28 = .ok (.aload_n 0, 1) := dk_42 (dk_at dksX57_redeem_1 6 rfl rfl)
theorem dX57_redeem_29 : decode cX57_redeem 29 = .ok (.getfield 72, 3) := dk_180 0 72 (dk_at dksX57_redeem_1 7 rfl rfl)
theorem dX57_redeem_32 : decode cX57_redeem 32 = .ok (.iload_n 1, 1) := dk_27 (dk_at dksX57_redeem_1 10 rfl rfl)
theorem dX57_redeem_33 : decode cX57_redeem 33 = .ok (.baload, 1) := dk_51 (dk_at dksX57_redeem_1 11 rfl rfl)
theorem dX57_redeem_34 : decode cX57_redeem 34 = .ok (.ifCond .eq 5, 3) := dk_153 0 5 (dk_at dksX57_redeem_1 12 rfl rfl)
theorem dX57_redeem_37 : decode cX57_redeem 37 = .ok (.iconst 0, 1) := dk_3 (dk_at dksX57_redeem_1 15 rfl rfl)
theorem dX57_redeem_38 : decode cX57_redeem 38 = .ok (.ireturn, 1) := dk_172 (dk_at dksX57_redeem_1 16 rfl rfl)
theorem dX57_redeem_39 : decode cX57_redeem 39 = .ok (.aload_n 0, 1) := dk_42 (dk_at dksX57_redeem_1 17 rfl rfl)
theorem dX57_redeem_40 : decode cX57_redeem 40 = .ok (.getfield 72, 3) := dk_180 0 72 (dk_at dksX57_redeem_1 18 rfl rfl)
theorem dX57_redeem_43 : decode cX57_redeem 43 = .ok (.iload_n 1, 1) := dk_27 (dk_at dksX57_redeem_1 21 rfl rfl)
theorem dX57_redeem_44 : decode cX57_redeem 44 = .ok (.iconst 1, 1) := dk_4 (dk_at dksX57_redeem_1 22 rfl rfl)
theorem dX57_redeem_45 : decode cX57_redeem 45 = .ok (.bastore, 1) := dk_84 (dk_at dksX57_redeem_1 23 rfl rfl)
theorem dX57_redeem_46 : decode cX57_redeem 46 = .ok (.aload_n 0, 1) := dk_42 (dk_at dksX57_redeem_2 0 rfl rfl)
theorem dX57_redeem_47 : decode cX57_redeem 47 = .ok (.getfield 75, 3) := dk_180 0 75 (dk_at dksX57_redeem_2 1 rfl rfl)
theorem dX57_redeem_50 : decode cX57_redeem 50 = .ok (.iload_n 2, 1) := dk_28 (dk_at dksX57_redeem_2 4 rfl rfl)
theorem dX57_redeem_51 : decode cX57_redeem 51 = .ok (.dup2, 1) := dk_92 (dk_at dksX57_redeem_2 5 rfl rfl)
theorem dX57_redeem_52 : decode cX57_redeem 52 = .ok (.laload, 1) := dk_47 (dk_at dksX57_redeem_2 6 rfl rfl)
theorem dX57_redeem_53 : decode cX57_redeem 53 = .ok (.aload_n 0, 1) := dk_42 (dk_at dksX57_redeem_2 7 rfl rfl)
theorem dX57_redeem_54 : decode cX57_redeem 54 = .ok (.getfield 69, 3) := dk_180 0 69 (dk_at dksX57_redeem_2 8 rfl rfl)
theorem dX57_redeem_57 : decode cX57_redeem 57 = .ok (.iload_n 1, 1) := dk_27 (dk_at dksX57_redeem_2 11 rfl rfl)
theorem dX57_redeem_58 : decode cX57_redeem 58 = .ok (.iaload, 1) := dk_46 (dk_at dksX57_redeem_2 12 rfl rfl)
theorem dX57_redeem_59 : decode cX57_redeem 59 = .ok (.i2l, 1) := dk_133 (dk_at dksX57_redeem_2 13 rfl rfl)
theorem dX57_redeem_60 : decode cX57_redeem 60 = .ok (.ladd, 1) := dk_97 (dk_at dksX57_redeem_2 14 rfl rfl)
theorem dX57_redeem_61 : decode cX57_redeem 61 = .ok (.lastore, 1) := dk_80 (dk_at dksX57_redeem_2 15 rfl rfl)
theorem dX57_redeem_62 : decode cX57_redeem 62 = .ok (.iconst 1, 1) := dk_4 (dk_at dksX57_redeem_2 16 rfl rfl)
theorem dX57_redeem_63 : decode cX57_redeem 63 = .ok (.ireturn, 1) := dk_172 (dk_at dksX57_redeem_2 17 rfl rfl)
abbrev cX57_shop : ByteArray := prog_59_method_34_code
def yX57_shop : MethodName := ⟨RX57, "shop", "(I)J"⟩
def dkwX57_shop_1 : List UInt8 := [167, 0, 6, 20, 0, 168, 173]
abbrev dktX57_shop_1 : List UInt8 := dkwX57_shop_1 ++ []
def dkwX57_shop_0 : List UInt8 := [42, 3, 181, 0, 81, 27, 133, 20, 0, 186, 184, 0, 87, 153, 0, 12, 42, 180, 0, 75, 27, 47]
abbrev dktX57_shop_0 : List UInt8 := dkwX57_shop_0 ++ dktX57_shop_1
theorem dksX57_shop_0 : cX57_shop.data.toList.drop 0 = dktX57_shop_0 := by decide +kernel
theorem dksX57_shop_1 : cX57_shop.data.toList.drop 22 = dktX57_shop_1 := dk_seg dksX57_shop_0 22 rfl rfl
theorem dX57_shop_0 : decode cX57_shop 0 = .ok (.aload_n 0, 1) := dk_42 (dk_at dksX57_shop_0 0 rfl rfl)
theorem dX57_shop_1 : decode cX57_shop 1 = .ok (.iconst 0, 1) := dk_3 (dk_at dksX57_shop_0 1 rfl rfl)
theorem dX57_shop_2 : decode cX57_shop 2 = .ok (.putfield 81, 3) := dk_181 0 81 (dk_at dksX57_shop_0 2 rfl rfl)
theorem dX57_shop_5 : decode cX57_shop 5 = .ok (.iload_n 1, 1) := dk_27 (dk_at dksX57_shop_0 5 rfl rfl)
theorem dX57_shop_6 : decode cX57_shop 6 = .ok (.i2l, 1) := dk_133 (dk_at dksX57_shop_0 6 rfl rfl)
theorem dX57_shop_7 : decode cX57_shop 7 = .ok (.ldc2_w 186, 3) := dk_20 0 186 (dk_at dksX57_shop_0 7 rfl rfl)
theorem dX57_shop_10 : decode cX57_shop 10 = .ok (.invokestatic 87, 3) := dk_184 0 87 (dk_at dksX57_shop_0 10 rfl rfl)
theorem dX57_shop_13 : decode cX57_shop 13 = .ok (.ifCond .eq 12, 3) := dk_153 0 12 (dk_at dksX57_shop_0 13 rfl rfl)
theorem dX57_shop_16 : decode cX57_shop 16 = .ok (.aload_n 0, 1) := dk_42 (dk_at dksX57_shop_0 16 rfl rfl)
theorem dX57_shop_17 : decode cX57_shop 17 = .ok (.getfield 75, 3) := dk_180 0 75 (dk_at dksX57_shop_0 17 rfl rfl)
theorem dX57_shop_20 : decode cX57_shop 20 = .ok (.iload_n 1, 1) := dk_27 (dk_at dksX57_shop_0 20 rfl rfl)
theorem dX57_shop_21 : decode cX57_shop 21 = .ok (.laload, 1) := dk_47 (dk_at dksX57_shop_0 21 rfl rfl)
theorem dX57_shop_22 : decode cX57_shop 22 = .ok (.goto 6, 3) := dk_167 0 6 (dk_at dksX57_shop_1 0 rfl rfl)
theorem dX57_shop_25 : decode cX57_shop 25 = .ok (.ldc2_w 168, 3) := dk_20 0 168 (dk_at dksX57_shop_1 3 rfl rfl)
theorem dX57_shop_28 : decode cX57_shop 28 = .ok (.lreturn, 1) := dk_173 (dk_at dksX57_shop_1 6 rfl rfl)
abbrev cX57_clear : ByteArray := prog_59_method_35_code
def yX57_clear : MethodName := ⟨RX57, "clear", "(I)I"⟩
def dkwX57_clear_6 : List UInt8 := [9, 148, 154, 0, 7, 28, 167, 0, 6, 28, 4, 96, 61, 132, 3, 1, 167, 255, 121, 28, 172]
abbrev dktX57_clear_6 : List UInt8 := dkwX57_clear_6 ++ []
def dkwX57_clear_5 : List UInt8 := [154, 0, 9, 20, 0, 190, 167, 0, 4, 9, 97, 80, 132, 4, 1, 167, 255, 161, 42, 180, 0, 78, 29, 47]
abbrev dktX57_clear_5 : List UInt8 := dkwX57_clear_5 ++ dktX57_clear_6
def dkwX57_clear_4 : List UInt8 := [47, 42, 180, 0, 32, 21, 4, 47, 20, 0, 115, 109, 20, 0, 115, 113, 20, 0, 192, 113, 29, 133, 148]
abbrev dktX57_clear_4 : List UInt8 := dkwX57_clear_4 ++ dktX57_clear_5
def dkwX57_clear_3 : List UInt8 := [21, 4, 46, 6, 112, 29, 160, 0, 9, 20, 0, 190, 167, 0, 4, 9, 101, 80, 42, 180, 0, 78, 29, 92]
abbrev dktX57_clear_3 : List UInt8 := dkwX57_clear_3 ++ dktX57_clear_4
def dkwX57_clear_2 : List UInt8 := [180, 0, 42, 21, 4, 47, 27, 133, 148, 154, 0, 73, 42, 180, 0, 78, 29, 92, 47, 42, 180, 0, 36]
abbrev dktX57_clear_2 : List UInt8 := dkwX57_clear_2 ++ dktX57_clear_3
def dkwX57_clear_1 : List UInt8 := [162, 0, 136, 42, 180, 0, 78, 29, 9, 80, 3, 54, 4, 21, 4, 42, 180, 0, 140, 162, 0, 92, 42]
abbrev dktX57_clear_1 : List UInt8 := dkwX57_clear_1 ++ dktX57_clear_2
def dkwX57_clear_0 : List UInt8 := [42, 3, 181, 0, 81, 27, 133, 20, 0, 188, 184, 0, 87, 154, 0, 5, 2, 172, 3, 61, 3, 62, 29, 6]
abbrev dktX57_clear_0 : List UInt8 := dkwX57_clear_0 ++ dktX57_clear_1
theorem dksX57_clear_0 : cX57_clear.data.toList.drop 0 = dktX57_clear_0 := by decide +kernel
theorem dksX57_clear_1 : cX57_clear.data.toList.drop 24 = dktX57_clear_1 := dk_seg dksX57_clear_0 24 rfl rfl
theorem dksX57_clear_2 : cX57_clear.data.toList.drop 47 = dktX57_clear_2 := dk_seg dksX57_clear_1 23 rfl rfl
theorem dksX57_clear_3 : cX57_clear.data.toList.drop 70 = dktX57_clear_3 := dk_seg dksX57_clear_2 23 rfl rfl
theorem dksX57_clear_4 : cX57_clear.data.toList.drop 94 = dktX57_clear_4 := dk_seg dksX57_clear_3 24 rfl rfl
theorem dksX57_clear_5 : cX57_clear.data.toList.drop 117 = dktX57_clear_5 := dk_seg dksX57_clear_4 23 rfl rfl
theorem dksX57_clear_6 : cX57_clear.data.toList.drop 141 = dktX57_clear_6 := dk_seg dksX57_clear_5 24 rfl rfl
theorem dX57_clear_0 : decode cX57_clear 0 = .ok (.aload_n 0, 1) := dk_42 (dk_at dksX57_clear_0 0 rfl rfl)
theorem dX57_clear_1 : decode cX57_clear 1 = .ok (.iconst 0, 1) := dk_3 (dk_at dksX57_clear_0 1 rfl rfl)
theorem dX57_clear_2 : decode cX57_clear 2 = .ok (.putfield 81, 3) := dk_181 0 81 (dk_at dksX57_clear_0 2 rfl rfl)
theorem dX57_clear_5 : decode cX57_clear 5 = .ok (.iload_n 1, 1) := dk_27 (dk_at dksX57_clear_0 5 rfl rfl)
theorem dX57_clear_6 : decode cX57_clear 6 = .ok (.i2l, 1) := dk_133 (dk_at dksX57_clear_0 6 rfl rfl)
theorem dX57_clear_7 : decode cX57_clear 7 = .ok (.ldc2_w 188, 3) := dk_20 0 188 (dk_at dksX57_clear_0 7 rfl rfl)
theorem dX57_clear_10 : decode cX57_clear 10 = .ok (.invokestatic 87, 3) := dk_184 0 87 (dk_at dksX57_clear_0 10 rfl rfl)
theorem dX57_clear_13 : decode cX57_clear 13 = .ok (.ifCond .ne 5, 3) := dk_154 0 5 (dk_at dksX57_clear_0 13 rfl rfl)
theorem dX57_clear_16 : decode cX57_clear 16 = .ok (.iconst (-1), 1) := dk_2 (dk_at dksX57_clear_0 16 rfl rfl)
theorem dX57_clear_17 : decode cX57_clear 17 = .ok (.ireturn, 1) := dk_172 (dk_at dksX57_clear_0 17 rfl rfl)
theorem dX57_clear_18 : decode cX57_clear 18 = .ok (.iconst 0, 1) := dk_3 (dk_at dksX57_clear_0 18 rfl rfl)
theorem dX57_clear_19 : decode cX57_clear 19 = .ok (.istore_n 2, 1) := dk_61 (dk_at dksX57_clear_0 19 rfl rfl)
theorem dX57_clear_20 : decode cX57_clear 20 = .ok (.iconst 0, 1) := dk_3 (dk_at dksX57_clear_0 20 rfl rfl)
theorem dX57_clear_21 : decode cX57_clear 21 = .ok (.istore_n 3, 1) := dk_62 (dk_at dksX57_clear_0 21 rfl rfl)
theorem dX57_clear_22 : decode cX57_clear 22 = .ok (.iload_n 3, 1) := dk_29 (dk_at dksX57_clear_0 22 rfl rfl)
theorem dX57_clear_23 : decode cX57_clear 23 = .ok (.iconst 3, 1) := dk_6 (dk_at dksX57_clear_0 23 rfl rfl)
theorem dX57_clear_24 : decode cX57_clear 24 = .ok (.if_icmp .ge 136, 3) := dk_162 0 136 (dk_at dksX57_clear_1 0 rfl rfl)
theorem dX57_clear_27 : decode cX57_clear 27 = .ok (.aload_n 0, 1) := dk_42 (dk_at dksX57_clear_1 3 rfl rfl)
theorem dX57_clear_28 : decode cX57_clear 28 = .ok (.getfield 78, 3) := dk_180 0 78 (dk_at dksX57_clear_1 4 rfl rfl)
theorem dX57_clear_31 : decode cX57_clear 31 = .ok (.iload_n 3, 1) := dk_29 (dk_at dksX57_clear_1 7 rfl rfl)
theorem dX57_clear_32 : decode cX57_clear 32 = .ok (.lconst 0, 1) := dk_9 (dk_at dksX57_clear_1 8 rfl rfl)
theorem dX57_clear_33 : decode cX57_clear 33 = .ok (.lastore, 1) := dk_80 (dk_at dksX57_clear_1 9 rfl rfl)
theorem dX57_clear_34 : decode cX57_clear 34 = .ok (.iconst 0, 1) := dk_3 (dk_at dksX57_clear_1 10 rfl rfl)
theorem dX57_clear_35 : decode cX57_clear 35 = .ok (.istore 4, 2) := dk_54 4 (dk_at dksX57_clear_1 11 rfl rfl)
theorem dX57_clear_37 : decode cX57_clear 37 = .ok (.iload 4, 2) := dk_21 4 (dk_at dksX57_clear_1 13 rfl rfl)
theorem dX57_clear_39 : decode cX57_clear 39 = .ok (.aload_n 0, 1) := dk_42 (dk_at dksX57_clear_1 15 rfl rfl)
theorem dX57_clear_40 : decode cX57_clear 40 = .ok (.getfield 140, 3) := dk_180 0 140 (dk_at dksX57_clear_1 16 rfl rfl)
theorem dX57_clear_43 : decode cX57_clear 43 = .ok (.if_icmp .ge 92, 3) := dk_162 0 92 (dk_at dksX57_clear_1 19 rfl rfl)
theorem dX57_clear_46 : decode cX57_clear 46 = .ok (.aload_n 0, 1) := dk_42 (dk_at dksX57_clear_1 22 rfl rfl)
theorem dX57_clear_47 : decode cX57_clear 47 = .ok (.getfield 42, 3) := dk_180 0 42 (dk_at dksX57_clear_2 0 rfl rfl)
theorem dX57_clear_50 : decode cX57_clear 50 = .ok (.iload 4, 2) := dk_21 4 (dk_at dksX57_clear_2 3 rfl rfl)
theorem dX57_clear_52 : decode cX57_clear 52 = .ok (.laload, 1) := dk_47 (dk_at dksX57_clear_2 5 rfl rfl)
theorem dX57_clear_53 : decode cX57_clear 53 = .ok (.iload_n 1, 1) := dk_27 (dk_at dksX57_clear_2 6 rfl rfl)
theorem dX57_clear_54 : decode cX57_clear 54 = .ok (.i2l, 1) := dk_133 (dk_at dksX57_clear_2 7 rfl rfl)
theorem dX57_clear_55 : decode cX57_clear 55 = .ok (.lcmp, 1) := dk_148 (dk_at dksX57_clear_2 8 rfl rfl)
theorem dX57_clear_56 : decode cX57_clear 56 = .ok (.ifCond .ne 73, 3) := dk_154 0 73 (dk_at dksX57_clear_2 9 rfl rfl)
theorem dX57_clear_59 : decode cX57_clear 59 = .ok (.aload_n 0, 1) := dk_42 (dk_at dksX57_clear_2 12 rfl rfl)
theorem dX57_clear_60 : decode cX57_clear 60 = .ok (.getfield 78, 3) := dk_180 0 78 (dk_at dksX57_clear_2 13 rfl rfl)
theorem dX57_clear_63 : decode cX57_clear 63 = .ok (.iload_n 3, 1) := dk_29 (dk_at dksX57_clear_2 16 rfl rfl)
theorem dX57_clear_64 : decode cX57_clear 64 = .ok (.dup2, 1) := dk_92 (dk_at dksX57_clear_2 17 rfl rfl)
theorem dX57_clear_65 : decode cX57_clear 65 = .ok (.laload, 1) := dk_47 (dk_at dksX57_clear_2 18 rfl rfl)
theorem dX57_clear_66 : decode cX57_clear 66 = .ok (.aload_n 0, 1) := dk_42 (dk_at dksX57_clear_2 19 rfl rfl)
theorem dX57_clear_67 : decode cX57_clear 67 = .ok (.getfield 36, 3) := dk_180 0 36 (dk_at dksX57_clear_2 20 rfl rfl)
theorem dX57_clear_70 : decode cX57_clear 70 = .ok (.iload 4, 2) := dk_21 4 (dk_at dksX57_clear_3 0 rfl rfl)
theorem dX57_clear_72 : decode cX57_clear 72 = .ok (.iaload, 1) := dk_46 (dk_at dksX57_clear_3 2 rfl rfl)
theorem dX57_clear_73 : decode cX57_clear 73 = .ok (.iconst 3, 1) := dk_6 (dk_at dksX57_clear_3 3 rfl rfl)
theorem dX57_clear_74 : decode cX57_clear 74 = .ok (.irem, 1) := dk_112 (dk_at dksX57_clear_3 4 rfl rfl)
theorem dX57_clear_75 : decode cX57_clear 75 = .ok (.iload_n 3, 1) := dk_29 (dk_at dksX57_clear_3 5 rfl rfl)
theorem dX57_clear_76 : decode cX57_clear 76 = .ok (.if_icmp .ne 9, 3) := dk_160 0 9 (dk_at dksX57_clear_3 6 rfl rfl)
theorem dX57_clear_79 : decode cX57_clear 79 = .ok (.ldc2_w 190, 3) := dk_20 0 190 (dk_at dksX57_clear_3 9 rfl rfl)
theorem dX57_clear_82 : decode cX57_clear 82 = .ok (.goto 4, 3) := dk_167 0 4 (dk_at dksX57_clear_3 12 rfl rfl)
theorem dX57_clear_85 : decode cX57_clear 85 = .ok (.lconst 0, 1) := dk_9 (dk_at dksX57_clear_3 15 rfl rfl)
theorem dX57_clear_86 : decode cX57_clear 86 = .ok (.lsub, 1) := dk_101 (dk_at dksX57_clear_3 16 rfl rfl)
theorem dX57_clear_87 : decode cX57_clear 87 = .ok (.lastore, 1) := dk_80 (dk_at dksX57_clear_3 17 rfl rfl)
theorem dX57_clear_88 : decode cX57_clear 88 = .ok (.aload_n 0, 1) := dk_42 (dk_at dksX57_clear_3 18 rfl rfl)
theorem dX57_clear_89 : decode cX57_clear 89 = .ok (.getfield 78, 3) := dk_180 0 78 (dk_at dksX57_clear_3 19 rfl rfl)
theorem dX57_clear_92 : decode cX57_clear 92 = .ok (.iload_n 3, 1) := dk_29 (dk_at dksX57_clear_3 22 rfl rfl)
theorem dX57_clear_93 : decode cX57_clear 93 = .ok (.dup2, 1) := dk_92 (dk_at dksX57_clear_3 23 rfl rfl)
theorem dX57_clear_94 : decode cX57_clear 94 = .ok (.laload, 1) := dk_47 (dk_at dksX57_clear_4 0 rfl rfl)
theorem dX57_clear_95 : decode cX57_clear 95 = .ok (.aload_n 0, 1) := dk_42 (dk_at dksX57_clear_4 1 rfl rfl)
theorem dX57_clear_96 : decode cX57_clear 96 = .ok (.getfield 32, 3) := dk_180 0 32 (dk_at dksX57_clear_4 2 rfl rfl)
theorem dX57_clear_99 : decode cX57_clear 99 = .ok (.iload 4, 2) := dk_21 4 (dk_at dksX57_clear_4 5 rfl rfl)
theorem dX57_clear_101 : decode cX57_clear 101 = .ok (.laload, 1) := dk_47 (dk_at dksX57_clear_4 7 rfl rfl)
theorem dX57_clear_102 : decode cX57_clear 102 = .ok (.ldc2_w 115, 3) := dk_20 0 115 (dk_at dksX57_clear_4 8 rfl rfl)
theorem dX57_clear_105 : decode cX57_clear 105 = .ok (.ldiv, 1) := dk_109 (dk_at dksX57_clear_4 11 rfl rfl)
theorem dX57_clear_106 : decode cX57_clear 106 = .ok (.ldc2_w 115, 3) := dk_20 0 115 (dk_at dksX57_clear_4 12 rfl rfl)
theorem dX57_clear_109 : decode cX57_clear 109 = .ok (.lrem, 1) := dk_113 (dk_at dksX57_clear_4 15 rfl rfl)
theorem dX57_clear_110 : decode cX57_clear 110 = .ok (.ldc2_w 192, 3) := dk_20 0 192 (dk_at dksX57_clear_4 16 rfl rfl)
theorem dX57_clear_113 : decode cX57_clear 113 = .ok (.lrem, 1) := dk_113 (dk_at dksX57_clear_4 19 rfl rfl)
theorem dX57_clear_114 : decode cX57_clear 114 = .ok (.iload_n 3, 1) := dk_29 (dk_at dksX57_clear_4 20 rfl rfl)
theorem dX57_clear_115 : decode cX57_clear 115 = .ok (.i2l, 1) := dk_133 (dk_at dksX57_clear_4 21 rfl rfl)
theorem dX57_clear_116 : decode cX57_clear 116 = .ok (.lcmp, 1) := dk_148 (dk_at dksX57_clear_4 22 rfl rfl)
theorem dX57_clear_117 : decode cX57_clear 117 = .ok (.ifCond .ne 9, 3) := dk_154 0 9 (dk_at dksX57_clear_5 0 rfl rfl)
theorem dX57_clear_120 : decode cX57_clear 120 = .ok (.ldc2_w 190, 3) := dk_20 0 190 (dk_at dksX57_clear_5 3 rfl rfl)
theorem dX57_clear_123 : decode cX57_clear 123 = .ok (.goto 4, 3) := dk_167 0 4 (dk_at dksX57_clear_5 6 rfl rfl)
theorem dX57_clear_126 : decode cX57_clear 126 = .ok (.lconst 0, 1) := dk_9 (dk_at dksX57_clear_5 9 rfl rfl)
theorem dX57_clear_127 : decode cX57_clear 127 = .ok (.ladd, 1) := dk_97 (dk_at dksX57_clear_5 10 rfl rfl)
theorem dX57_clear_128 : decode cX57_clear 128 = .ok (.lastore, 1) := dk_80 (dk_at dksX57_clear_5 11 rfl rfl)
theorem dX57_clear_129 : decode cX57_clear 129 = .ok (.iinc 4 1, 3) := dk_132 4 1 (dk_at dksX57_clear_5 12 rfl rfl)
theorem dX57_clear_132 : decode cX57_clear 132 = .ok (.goto (-95), 3) := dk_167 255 161 (dk_at dksX57_clear_5 15 rfl rfl)
theorem dX57_clear_135 : decode cX57_clear 135 = .ok (.aload_n 0, 1) := dk_42 (dk_at dksX57_clear_5 18 rfl rfl)
theorem dX57_clear_136 : decode cX57_clear 136 = .ok (.getfield 78, 3) := dk_180 0 78 (dk_at dksX57_clear_5 19 rfl rfl)
theorem dX57_clear_139 : decode cX57_clear 139 = .ok (.iload_n 3, 1) := dk_29 (dk_at dksX57_clear_5 22 rfl rfl)
theorem dX57_clear_140 : decode cX57_clear 140 = .ok (.laload, 1) := dk_47 (dk_at dksX57_clear_5 23 rfl rfl)
theorem dX57_clear_141 : decode cX57_clear 141 = .ok (.lconst 0, 1) := dk_9 (dk_at dksX57_clear_6 0 rfl rfl)
theorem dX57_clear_142 : decode cX57_clear 142 = .ok (.lcmp, 1) := dk_148 (dk_at dksX57_clear_6 1 rfl rfl)
theorem dX57_clear_143 : decode cX57_clear 143 = .ok (.ifCond .ne 7, 3) := dk_154 0 7 (dk_at dksX57_clear_6 2 rfl rfl)
theorem dX57_clear_146 : decode cX57_clear 146 = .ok (.iload_n 2, 1) := dk_28 (dk_at dksX57_clear_6 5 rfl rfl)
theorem dX57_clear_147 : decode cX57_clear 147 = .ok (.goto 6, 3) := dk_167 0 6 (dk_at dksX57_clear_6 6 rfl rfl)
theorem dX57_clear_150 : decode cX57_clear 150 = .ok (.iload_n 2, 1) := dk_28 (dk_at dksX57_clear_6 9 rfl rfl)
theorem dX57_clear_151 : decode cX57_clear 151 = .ok (.iconst 1, 1) := dk_4 (dk_at dksX57_clear_6 10 rfl rfl)
theorem dX57_clear_152 : decode cX57_clear 152 = .ok (.iadd, 1) := dk_96 (dk_at dksX57_clear_6 11 rfl rfl)
theorem dX57_clear_153 : decode cX57_clear 153 = .ok (.istore_n 2, 1) := dk_61 (dk_at dksX57_clear_6 12 rfl rfl)
theorem dX57_clear_154 : decode cX57_clear 154 = .ok (.iinc 3 1, 3) := dk_132 3 1 (dk_at dksX57_clear_6 13 rfl rfl)
theorem dX57_clear_157 : decode cX57_clear 157 = .ok (.goto (-135), 3) := dk_167 255 121 (dk_at dksX57_clear_6 16 rfl rfl)
theorem dX57_clear_160 : decode cX57_clear 160 = .ok (.iload_n 2, 1) := dk_28 (dk_at dksX57_clear_6 19 rfl rfl)
theorem dX57_clear_161 : decode cX57_clear 161 = .ok (.ireturn, 1) := dk_172 (dk_at dksX57_clear_6 20 rfl rfl)
abbrev cX57_cleared : ByteArray := prog_59_method_36_code
def yX57_cleared : MethodName := ⟨RX57, "cleared", "(I)J"⟩
def dkwX57_cleared_1 : List UInt8 := [167, 0, 4, 9, 173]
abbrev dktX57_cleared_1 : List UInt8 := dkwX57_cleared_1 ++ []
def dkwX57_cleared_0 : List UInt8 := [42, 3, 181, 0, 81, 27, 133, 20, 0, 194, 184, 0, 87, 153, 0, 12, 42, 180, 0, 78, 27, 47]
abbrev dktX57_cleared_0 : List UInt8 := dkwX57_cleared_0 ++ dktX57_cleared_1
theorem dksX57_cleared_0 : cX57_cleared.data.toList.drop 0 = dktX57_cleared_0 := by decide +kernel
theorem dksX57_cleared_1 : cX57_cleared.data.toList.drop 22 = dktX57_cleared_1 := dk_seg dksX57_cleared_0 22 rfl rfl
theorem dX57_cleared_0 : decode cX57_cleared 0 = .ok (.aload_n 0, 1) := dk_42 (dk_at dksX57_cleared_0 0 rfl rfl)
theorem dX57_cleared_1 : decode cX57_cleared 1 = .ok (.iconst 0, 1) := dk_3 (dk_at dksX57_cleared_0 1 rfl rfl)
theorem dX57_cleared_2 : decode cX57_cleared 2 = .ok (.putfield 81, 3) := dk_181 0 81 (dk_at dksX57_cleared_0 2 rfl rfl)
theorem dX57_cleared_5 : decode cX57_cleared 5 = .ok (.iload_n 1, 1) := dk_27 (dk_at dksX57_cleared_0 5 rfl rfl)
theorem dX57_cleared_6 : decode cX57_cleared 6 = .ok (.i2l, 1) := dk_133 (dk_at dksX57_cleared_0 6 rfl rfl)
theorem dX57_cleared_7 : decode cX57_cleared 7 = .ok (.ldc2_w 194, 3) := dk_20 0 194 (dk_at dksX57_cleared_0 7 rfl rfl)
theorem dX57_cleared_10 : decode cX57_cleared 10 = .ok (.invokestatic 87, 3) := dk_184 0 87 (dk_at dksX57_cleared_0 10 rfl rfl)
theorem dX57_cleared_13 : decode cX57_cleared 13 = .ok (.ifCond .eq 12, 3) := dk_153 0 12 (dk_at dksX57_cleared_0 13 rfl rfl)
theorem dX57_cleared_16 : decode cX57_cleared 16 = .ok (.aload_n 0, 1) := dk_42 (dk_at dksX57_cleared_0 16 rfl rfl)
theorem dX57_cleared_17 : decode cX57_cleared 17 = .ok (.getfield 78, 3) := dk_180 0 78 (dk_at dksX57_cleared_0 17 rfl rfl)
theorem dX57_cleared_20 : decode cX57_cleared 20 = .ok (.iload_n 1, 1) := dk_27 (dk_at dksX57_cleared_0 20 rfl rfl)
theorem dX57_cleared_21 : decode cX57_cleared 21 = .ok (.laload, 1) := dk_47 (dk_at dksX57_cleared_0 21 rfl rfl)
theorem dX57_cleared_22 : decode cX57_cleared 22 = .ok (.goto 4, 3) := dk_167 0 4 (dk_at dksX57_cleared_1 0 rfl rfl)
theorem dX57_cleared_25 : decode cX57_cleared 25 = .ok (.lconst 0, 1) := dk_9 (dk_at dksX57_cleared_1 3 rfl rfl)
theorem dX57_cleared_26 : decode cX57_cleared 26 = .ok (.lreturn, 1) := dk_173 (dk_at dksX57_cleared_1 4 rfl rfl)
abbrev cX57_fraud : ByteArray := prog_59_method_37_code
def yX57_fraud : MethodName := ⟨RX57, "fraud", "(I)I"⟩
def dkwX57_fraud_1 : List UInt8 := [167, 0, 4, 2, 172]
abbrev dktX57_fraud_1 : List UInt8 := dkwX57_fraud_1 ++ []
def dkwX57_fraud_0 : List UInt8 := [42, 3, 181, 0, 81, 27, 155, 0, 20, 27, 42, 180, 0, 150, 162, 0, 12, 42, 180, 0, 57, 27, 46]
abbrev dktX57_fraud_0 : List UInt8 := dkwX57_fraud_0 ++ dktX57_fraud_1
theorem dksX57_fraud_0 : cX57_fraud.data.toList.drop 0 = dktX57_fraud_0 := by decide +kernel
theorem dksX57_fraud_1 : cX57_fraud.data.toList.drop 23 = dktX57_fraud_1 := dk_seg dksX57_fraud_0 23 rfl rfl
theorem dX57_fraud_0 : decode cX57_fraud 0 = .ok (.aload_n 0, 1) := dk_42 (dk_at dksX57_fraud_0 0 rfl rfl)
theorem dX57_fraud_1 : decode cX57_fraud 1 = .ok (.iconst 0, 1) := dk_3 (dk_at dksX57_fraud_0 1 rfl rfl)
theorem dX57_fraud_2 : decode cX57_fraud 2 = .ok (.putfield 81, 3) := dk_181 0 81 (dk_at dksX57_fraud_0 2 rfl rfl)
theorem dX57_fraud_5 : decode cX57_fraud 5 = .ok (.iload_n 1, 1) := dk_27 (dk_at dksX57_fraud_0 5 rfl rfl)
theorem dX57_fraud_6 : decode cX57_fraud 6 = .ok (.ifCond .lt 20, 3) := dk_155 0 20 (dk_at dksX57_fraud_0 6 rfl rfl)
theorem dX57_fraud_9 : decode cX57_fraud 9 = .ok (.iload_n 1, 1) := dk_27 (dk_at dksX57_fraud_0 9 rfl rfl)
theorem dX57_fraud_10 : decode cX57_fraud 10 = .ok (.aload_n 0, 1) := dk_42 (dk_at dksX57_fraud_0 10 rfl rfl)
theorem dX57_fraud_11 : decode cX57_fraud 11 = .ok (.getfield 150, 3) := dk_180 0 150 (dk_at dksX57_fraud_0 11 rfl rfl)
theorem dX57_fraud_14 : decode cX57_fraud 14 = .ok (.if_icmp .ge 12, 3) := dk_162 0 12 (dk_at dksX57_fraud_0 14 rfl rfl)
theorem dX57_fraud_17 : decode cX57_fraud 17 = .ok (.aload_n 0, 1) := dk_42 (dk_at dksX57_fraud_0 17 rfl rfl)
theorem dX57_fraud_18 : decode cX57_fraud 18 = .ok (.getfield 57, 3) := dk_180 0 57 (dk_at dksX57_fraud_0 18 rfl rfl)
theorem dX57_fraud_21 : decode cX57_fraud 21 = .ok (.iload_n 1, 1) := dk_27 (dk_at dksX57_fraud_0 21 rfl rfl)
theorem dX57_fraud_22 : decode cX57_fraud 22 = .ok (.iaload, 1) := dk_46 (dk_at dksX57_fraud_0 22 rfl rfl)
theorem dX57_fraud_23 : decode cX57_fraud 23 = .ok (.goto 4, 3) := dk_167 0 4 (dk_at dksX57_fraud_1 0 rfl rfl)
theorem dX57_fraud_26 : decode cX57_fraud 26 = .ok (.iconst (-1), 1) := dk_2 (dk_at dksX57_fraud_1 3 rfl rfl)
theorem dX57_fraud_27 : decode cX57_fraud 27 = .ok (.ireturn, 1) := dk_172 (dk_at dksX57_fraud_1 4 rfl rfl)
abbrev cX57_thrown : ByteArray := prog_59_method_2_code
def yX57_thrown : MethodName := ⟨RX57, "thrown", "()I"⟩
theorem dX57_thrown_0 : decode cX57_thrown 0 = .ok (.aload_n 0, 1) := by decide +kernel
theorem dX57_thrown_1 : decode cX57_thrown 1 = .ok (.getfield 81, 3) := by decide +kernel
theorem dX57_thrown_4 : decode cX57_thrown 4 = .ok (.ireturn, 1) := by decide +kernel
theorem q463 : (Jvm.Cond.initialized "WasteHouseModel$DepositCodesModel") ∈ lw_all := lw_g (lw_at lw_m1 71 rfl) rfl
theorem q2027 : (Jvm.Cond.selects "WasteHouseModel$DepositCodesModel" ({ cls := "java/lang/Object", name := "getClass", desc := "()Ljava/lang/Class;" } : Jvm.MethodName) ({ cls := "java/lang/Object", name := "getClass", desc := "()Ljava/lang/Class;" } : Jvm.MethodName)) ∈ lw_all := lw_g (lw_at lw_m7 195 rfl) rfl
theorem q3137 : (Jvm.Cond.selects "WasteHouseModel$DepositCodesModel" ({ cls := "java/lang/Object", name := "equals", desc := "(Ljava/lang/Object;)Z" } : Jvm.MethodName) ({ cls := "java/lang/Object", name := "equals", desc := "(Ljava/lang/Object;)Z" } : Jvm.MethodName)) ∈ lw_all := lw_g (lw_at lw_m12 105 rfl) rfl
theorem q3655 : (Jvm.Cond.selects "WasteHouseModel$DepositCodesModel" ({ cls := "java/lang/Object", name := "hashCode", desc := "()I" } : Jvm.MethodName) ({ cls := "java/lang/Object", name := "hashCode", desc := "()I" } : Jvm.MethodName)) ∈ lw_all := lw_g (lw_at lw_m14 143 rfl) rfl
theorem q7407 : (Jvm.Cond.instantiable "WasteHouseModel$DepositCodesModel" (32 : Nat)) ∈ lw_all := lw_g (lw_at lw_m30 55 rfl) rfl
theorem q7409 : (Jvm.Cond.instanceMethod ({ cls := "WasteHouseModel$DepositCodesModel", name := "<init>", desc := "()V" } : Jvm.MethodName)) ∈ lw_all := lw_g (lw_at lw_m30 57 rfl) rfl
theorem q7410 : (Jvm.Cond.code ({ cls := "WasteHouseModel$DepositCodesModel", name := "<init>", desc := "()V" } : Jvm.MethodName) prog_59_method_1_code (2 : Nat) (Option.none : Option Jvm.ClassFile.FieldType)) ∈ lw_all := lw_g (lw_at lw_m30 58 rfl) rfl
theorem q7411 : (Jvm.Cond.methodLink "WasteHouseModel$DepositCodesModel" (1 : Nat) ({ cls := "java/lang/Object", name := "<init>", desc := "()V" } : Jvm.MethodName)) ∈ lw_all := lw_g (lw_at lw_m30 59 rfl) rfl
theorem q7412 : (Jvm.Cond.fieldLink "WasteHouseModel$DepositCodesModel" (7 : Nat) "WasteHouseModel$DepositCodesModel" "widths" "[I") ∈ lw_all := lw_g (lw_at lw_m30 60 rfl) rfl
theorem q7413 : (Jvm.Cond.fieldLink "WasteHouseModel$DepositCodesModel" (13 : Nat) "WasteHouseModel$DepositCodesModel" "digits" "[I") ∈ lw_all := lw_g (lw_at lw_m30 61 rfl) rfl
theorem q7414 : (Jvm.Cond.fieldLink "WasteHouseModel$DepositCodesModel" (105 : Nat) "WasteHouseModel$DepositCodesModel" "digitCount" "I") ∈ lw_all := lw_g (lw_at lw_m30 62 rfl) rfl
theorem q7415 : (Jvm.Cond.fieldLink "WasteHouseModel$DepositCodesModel" (81 : Nat) "WasteHouseModel$DepositCodesModel" "fault" "I") ∈ lw_all := lw_g (lw_at lw_m30 63 rfl) rfl
theorem q7416 : (Jvm.Cond.fieldLink "WasteHouseModel$DepositCodesModel" (131 : Nat) "WasteHouseModel$DepositCodesModel" "machines" "I") ∈ lw_all := lw_g (lw_at lw_m30 64 rfl) rfl
theorem q7417 : (Jvm.Cond.fieldLink "WasteHouseModel$DepositCodesModel" (16 : Nat) "WasteHouseModel$DepositCodesModel" "sets" "[I") ∈ lw_all := lw_g (lw_at lw_m30 65 rfl) rfl
theorem q7418 : (Jvm.Cond.fieldLink "WasteHouseModel$DepositCodesModel" (19 : Nat) "WasteHouseModel$DepositCodesModel" "isFull" "[Z") ∈ lw_all := lw_g (lw_at lw_m30 66 rfl) rfl
theorem q7419 : (Jvm.Cond.fieldLink "WasteHouseModel$DepositCodesModel" (23 : Nat) "WasteHouseModel$DepositCodesModel" "isDark" "[Z") ∈ lw_all := lw_g (lw_at lw_m30 67 rfl) rfl
theorem q7420 : (Jvm.Cond.fieldLink "WasteHouseModel$DepositCodesModel" (26 : Nat) "WasteHouseModel$DepositCodesModel" "leasts" "[I") ∈ lw_all := lw_g (lw_at lw_m30 68 rfl) rfl
theorem q7421 : (Jvm.Cond.fieldLink "WasteHouseModel$DepositCodesModel" (29 : Nat) "WasteHouseModel$DepositCodesModel" "mosts" "[I") ∈ lw_all := lw_g (lw_at lw_m30 69 rfl) rfl
theorem q7422 : (Jvm.Cond.fieldLink "WasteHouseModel$DepositCodesModel" (32 : Nat) "WasteHouseModel$DepositCodesModel" "serials" "[J") ∈ lw_all := lw_g (lw_at lw_m30 70 rfl) rfl
theorem q7423 : (Jvm.Cond.fieldLink "WasteHouseModel$DepositCodesModel" (36 : Nat) "WasteHouseModel$DepositCodesModel" "payers" "[I") ∈ lw_all := lw_g (lw_at lw_m30 71 rfl) rfl
theorem q7424 : (Jvm.Cond.fieldLink "WasteHouseModel$DepositCodesModel" (39 : Nat) "WasteHouseModel$DepositCodesModel" "shapes" "[I") ∈ lw_all := lw_g (lw_at lw_m30 72 rfl) rfl
theorem q7425 : (Jvm.Cond.fieldLink "WasteHouseModel$DepositCodesModel" (42 : Nat) "WasteHouseModel$DepositCodesModel" "months" "[J") ∈ lw_all := lw_g (lw_at lw_m30 73 rfl) rfl
theorem q7426 : (Jvm.Cond.fieldLink "WasteHouseModel$DepositCodesModel" (45 : Nat) "WasteHouseModel$DepositCodesModel" "counts" "[Z") ∈ lw_all := lw_g (lw_at lw_m30 74 rfl) rfl
theorem q7427 : (Jvm.Cond.fieldLink "WasteHouseModel$DepositCodesModel" (48 : Nat) "WasteHouseModel$DepositCodesModel" "printed" "[Z") ∈ lw_all := lw_g (lw_at lw_m30 75 rfl) rfl
theorem q7428 : (Jvm.Cond.fieldLink "WasteHouseModel$DepositCodesModel" (140 : Nat) "WasteHouseModel$DepositCodesModel" "paid" "I") ∈ lw_all := lw_g (lw_at lw_m30 76 rfl) rfl
theorem q7429 : (Jvm.Cond.fieldLink "WasteHouseModel$DepositCodesModel" (159 : Nat) "WasteHouseModel$DepositCodesModel" "reason" "I") ∈ lw_all := lw_g (lw_at lw_m30 77 rfl) rfl
theorem q7430 : (Jvm.Cond.fieldLink "WasteHouseModel$DepositCodesModel" (51 : Nat) "WasteHouseModel$DepositCodesModel" "refused" "[J") ∈ lw_all := lw_g (lw_at lw_m30 78 rfl) rfl
theorem q7431 : (Jvm.Cond.fieldLink "WasteHouseModel$DepositCodesModel" (54 : Nat) "WasteHouseModel$DepositCodesModel" "often" "[I") ∈ lw_all := lw_g (lw_at lw_m30 79 rfl) rfl
theorem q7432 : (Jvm.Cond.fieldLink "WasteHouseModel$DepositCodesModel" (147 : Nat) "WasteHouseModel$DepositCodesModel" "refusedCount" "I") ∈ lw_all := lw_g (lw_at lw_m30 80 rfl) rfl
theorem q7433 : (Jvm.Cond.fieldLink "WasteHouseModel$DepositCodesModel" (57 : Nat) "WasteHouseModel$DepositCodesModel" "frauds" "[I") ∈ lw_all := lw_g (lw_at lw_m30 81 rfl) rfl
theorem q7434 : (Jvm.Cond.fieldLink "WasteHouseModel$DepositCodesModel" (150 : Nat) "WasteHouseModel$DepositCodesModel" "fraudCount" "I") ∈ lw_all := lw_g (lw_at lw_m30 82 rfl) rfl
theorem q7435 : (Jvm.Cond.fieldLink "WasteHouseModel$DepositCodesModel" (60 : Nat) "WasteHouseModel$DepositCodesModel" "doubles" "[J") ∈ lw_all := lw_g (lw_at lw_m30 83 rfl) rfl
theorem q7436 : (Jvm.Cond.fieldLink "WasteHouseModel$DepositCodesModel" (63 : Nat) "WasteHouseModel$DepositCodesModel" "doubleA" "[I") ∈ lw_all := lw_g (lw_at lw_m30 84 rfl) rfl
theorem q7437 : (Jvm.Cond.fieldLink "WasteHouseModel$DepositCodesModel" (66 : Nat) "WasteHouseModel$DepositCodesModel" "doubleB" "[I") ∈ lw_all := lw_g (lw_at lw_m30 85 rfl) rfl
theorem q7438 : (Jvm.Cond.fieldLink "WasteHouseModel$DepositCodesModel" (170 : Nat) "WasteHouseModel$DepositCodesModel" "doubleCount" "I") ∈ lw_all := lw_g (lw_at lw_m30 86 rfl) rfl
theorem q7439 : (Jvm.Cond.fieldLink "WasteHouseModel$DepositCodesModel" (69 : Nat) "WasteHouseModel$DepositCodesModel" "coupons" "[I") ∈ lw_all := lw_g (lw_at lw_m30 87 rfl) rfl
theorem q7440 : (Jvm.Cond.fieldLink "WasteHouseModel$DepositCodesModel" (72 : Nat) "WasteHouseModel$DepositCodesModel" "redeemed" "[Z") ∈ lw_all := lw_g (lw_at lw_m30 88 rfl) rfl
theorem q7441 : (Jvm.Cond.fieldLink "WasteHouseModel$DepositCodesModel" (183 : Nat) "WasteHouseModel$DepositCodesModel" "couponCount" "I") ∈ lw_all := lw_g (lw_at lw_m30 89 rfl) rfl
theorem q7442 : (Jvm.Cond.fieldLink "WasteHouseModel$DepositCodesModel" (75 : Nat) "WasteHouseModel$DepositCodesModel" "shops" "[J") ∈ lw_all := lw_g (lw_at lw_m30 90 rfl) rfl
theorem q7443 : (Jvm.Cond.fieldLink "WasteHouseModel$DepositCodesModel" (78 : Nat) "WasteHouseModel$DepositCodesModel" "balances" "[J") ∈ lw_all := lw_g (lw_at lw_m30 91 rfl) rfl
theorem q7444 : (Jvm.Cond.laysFinal "WasteHouseModel$DepositCodesModel" "WasteHouseModel$DepositCodesModel" "widths" "[I") ∈ lw_all := lw_g (lw_at lw_m30 92 rfl) rfl
theorem q7445 : (Jvm.Cond.soleField "WasteHouseModel$DepositCodesModel" "widths") ∈ lw_all := lw_g (lw_at lw_m30 93 rfl) rfl
theorem q7446 : (Jvm.Cond.laysFinal "WasteHouseModel$DepositCodesModel" "WasteHouseModel$DepositCodesModel" "digits" "[I") ∈ lw_all := lw_g (lw_at lw_m30 94 rfl) rfl
theorem q7447 : (Jvm.Cond.soleField "WasteHouseModel$DepositCodesModel" "digits") ∈ lw_all := lw_g (lw_at lw_m30 95 rfl) rfl
theorem q7448 : (Jvm.Cond.lays "WasteHouseModel$DepositCodesModel" "WasteHouseModel$DepositCodesModel" "digitCount" "I") ∈ lw_all := lw_g (lw_at lw_m30 96 rfl) rfl
theorem q7449 : (Jvm.Cond.soleField "WasteHouseModel$DepositCodesModel" "digitCount") ∈ lw_all := lw_g (lw_at lw_m30 97 rfl) rfl
theorem q7450 : (Jvm.Cond.lays "WasteHouseModel$DepositCodesModel" "WasteHouseModel$DepositCodesModel" "fault" "I") ∈ lw_all := lw_g (lw_at lw_m30 98 rfl) rfl
theorem q7451 : (Jvm.Cond.soleField "WasteHouseModel$DepositCodesModel" "fault") ∈ lw_all := lw_g (lw_at lw_m30 99 rfl) rfl
theorem q7452 : (Jvm.Cond.lays "WasteHouseModel$DepositCodesModel" "WasteHouseModel$DepositCodesModel" "machines" "I") ∈ lw_all := lw_g (lw_at lw_m30 100 rfl) rfl
theorem q7453 : (Jvm.Cond.soleField "WasteHouseModel$DepositCodesModel" "machines") ∈ lw_all := lw_g (lw_at lw_m30 101 rfl) rfl
theorem q7454 : (Jvm.Cond.laysFinal "WasteHouseModel$DepositCodesModel" "WasteHouseModel$DepositCodesModel" "sets" "[I") ∈ lw_all := lw_g (lw_at lw_m30 102 rfl) rfl
theorem q7455 : (Jvm.Cond.soleField "WasteHouseModel$DepositCodesModel" "sets") ∈ lw_all := lw_g (lw_at lw_m30 103 rfl) rfl
theorem q7456 : (Jvm.Cond.laysFinal "WasteHouseModel$DepositCodesModel" "WasteHouseModel$DepositCodesModel" "isFull" "[Z") ∈ lw_all := lw_g (lw_at lw_m30 104 rfl) rfl
theorem q7457 : (Jvm.Cond.soleField "WasteHouseModel$DepositCodesModel" "isFull") ∈ lw_all := lw_g (lw_at lw_m30 105 rfl) rfl
theorem q7458 : (Jvm.Cond.laysFinal "WasteHouseModel$DepositCodesModel" "WasteHouseModel$DepositCodesModel" "isDark" "[Z") ∈ lw_all := lw_g (lw_at lw_m30 106 rfl) rfl
theorem q7459 : (Jvm.Cond.soleField "WasteHouseModel$DepositCodesModel" "isDark") ∈ lw_all := lw_g (lw_at lw_m30 107 rfl) rfl
theorem q7460 : (Jvm.Cond.laysFinal "WasteHouseModel$DepositCodesModel" "WasteHouseModel$DepositCodesModel" "leasts" "[I") ∈ lw_all := lw_g (lw_at lw_m30 108 rfl) rfl
theorem q7461 : (Jvm.Cond.soleField "WasteHouseModel$DepositCodesModel" "leasts") ∈ lw_all := lw_g (lw_at lw_m30 109 rfl) rfl
theorem q7462 : (Jvm.Cond.laysFinal "WasteHouseModel$DepositCodesModel" "WasteHouseModel$DepositCodesModel" "mosts" "[I") ∈ lw_all := lw_g (lw_at lw_m30 110 rfl) rfl
theorem q7463 : (Jvm.Cond.soleField "WasteHouseModel$DepositCodesModel" "mosts") ∈ lw_all := lw_g (lw_at lw_m30 111 rfl) rfl
theorem q7464 : (Jvm.Cond.laysFinal "WasteHouseModel$DepositCodesModel" "WasteHouseModel$DepositCodesModel" "serials" "[J") ∈ lw_all := lw_g (lw_at lw_m30 112 rfl) rfl
theorem q7465 : (Jvm.Cond.soleField "WasteHouseModel$DepositCodesModel" "serials") ∈ lw_all := lw_g (lw_at lw_m30 113 rfl) rfl
theorem q7466 : (Jvm.Cond.laysFinal "WasteHouseModel$DepositCodesModel" "WasteHouseModel$DepositCodesModel" "payers" "[I") ∈ lw_all := lw_g (lw_at lw_m30 114 rfl) rfl
theorem q7467 : (Jvm.Cond.soleField "WasteHouseModel$DepositCodesModel" "payers") ∈ lw_all := lw_g (lw_at lw_m30 115 rfl) rfl
theorem q7468 : (Jvm.Cond.laysFinal "WasteHouseModel$DepositCodesModel" "WasteHouseModel$DepositCodesModel" "shapes" "[I") ∈ lw_all := lw_g (lw_at lw_m30 116 rfl) rfl
theorem q7469 : (Jvm.Cond.soleField "WasteHouseModel$DepositCodesModel" "shapes") ∈ lw_all := lw_g (lw_at lw_m30 117 rfl) rfl
theorem q7470 : (Jvm.Cond.laysFinal "WasteHouseModel$DepositCodesModel" "WasteHouseModel$DepositCodesModel" "months" "[J") ∈ lw_all := lw_g (lw_at lw_m30 118 rfl) rfl
theorem q7471 : (Jvm.Cond.soleField "WasteHouseModel$DepositCodesModel" "months") ∈ lw_all := lw_g (lw_at lw_m30 119 rfl) rfl
theorem q7472 : (Jvm.Cond.laysFinal "WasteHouseModel$DepositCodesModel" "WasteHouseModel$DepositCodesModel" "counts" "[Z") ∈ lw_all := lw_g (lw_at lw_m30 120 rfl) rfl
theorem q7473 : (Jvm.Cond.soleField "WasteHouseModel$DepositCodesModel" "counts") ∈ lw_all := lw_g (lw_at lw_m30 121 rfl) rfl
theorem q7474 : (Jvm.Cond.laysFinal "WasteHouseModel$DepositCodesModel" "WasteHouseModel$DepositCodesModel" "printed" "[Z") ∈ lw_all := lw_g (lw_at lw_m30 122 rfl) rfl
theorem q7475 : (Jvm.Cond.soleField "WasteHouseModel$DepositCodesModel" "printed") ∈ lw_all := lw_g (lw_at lw_m30 123 rfl) rfl
theorem q7476 : (Jvm.Cond.lays "WasteHouseModel$DepositCodesModel" "WasteHouseModel$DepositCodesModel" "paid" "I") ∈ lw_all := lw_g (lw_at lw_m30 124 rfl) rfl
theorem q7477 : (Jvm.Cond.soleField "WasteHouseModel$DepositCodesModel" "paid") ∈ lw_all := lw_g (lw_at lw_m30 125 rfl) rfl
theorem q7478 : (Jvm.Cond.lays "WasteHouseModel$DepositCodesModel" "WasteHouseModel$DepositCodesModel" "reason" "I") ∈ lw_all := lw_g (lw_at lw_m30 126 rfl) rfl
theorem q7479 : (Jvm.Cond.soleField "WasteHouseModel$DepositCodesModel" "reason") ∈ lw_all := lw_g (lw_at lw_m30 127 rfl) rfl
theorem q7480 : (Jvm.Cond.laysFinal "WasteHouseModel$DepositCodesModel" "WasteHouseModel$DepositCodesModel" "refused" "[J") ∈ lw_all := lw_g (lw_at lw_m30 128 rfl) rfl
theorem q7481 : (Jvm.Cond.soleField "WasteHouseModel$DepositCodesModel" "refused") ∈ lw_all := lw_g (lw_at lw_m30 129 rfl) rfl
theorem q7482 : (Jvm.Cond.laysFinal "WasteHouseModel$DepositCodesModel" "WasteHouseModel$DepositCodesModel" "often" "[I") ∈ lw_all := lw_g (lw_at lw_m30 130 rfl) rfl
theorem q7483 : (Jvm.Cond.soleField "WasteHouseModel$DepositCodesModel" "often") ∈ lw_all := lw_g (lw_at lw_m30 131 rfl) rfl
theorem q7484 : (Jvm.Cond.lays "WasteHouseModel$DepositCodesModel" "WasteHouseModel$DepositCodesModel" "refusedCount" "I") ∈ lw_all := lw_g (lw_at lw_m30 132 rfl) rfl
theorem q7485 : (Jvm.Cond.soleField "WasteHouseModel$DepositCodesModel" "refusedCount") ∈ lw_all := lw_g (lw_at lw_m30 133 rfl) rfl
theorem q7486 : (Jvm.Cond.laysFinal "WasteHouseModel$DepositCodesModel" "WasteHouseModel$DepositCodesModel" "frauds" "[I") ∈ lw_all := lw_g (lw_at lw_m30 134 rfl) rfl
theorem q7487 : (Jvm.Cond.soleField "WasteHouseModel$DepositCodesModel" "frauds") ∈ lw_all := lw_g (lw_at lw_m30 135 rfl) rfl
theorem q7488 : (Jvm.Cond.lays "WasteHouseModel$DepositCodesModel" "WasteHouseModel$DepositCodesModel" "fraudCount" "I") ∈ lw_all := lw_g (lw_at lw_m30 136 rfl) rfl
theorem q7489 : (Jvm.Cond.soleField "WasteHouseModel$DepositCodesModel" "fraudCount") ∈ lw_all := lw_g (lw_at lw_m30 137 rfl) rfl
theorem q7490 : (Jvm.Cond.laysFinal "WasteHouseModel$DepositCodesModel" "WasteHouseModel$DepositCodesModel" "doubles" "[J") ∈ lw_all := lw_g (lw_at lw_m30 138 rfl) rfl
theorem q7491 : (Jvm.Cond.soleField "WasteHouseModel$DepositCodesModel" "doubles") ∈ lw_all := lw_g (lw_at lw_m30 139 rfl) rfl
theorem q7492 : (Jvm.Cond.laysFinal "WasteHouseModel$DepositCodesModel" "WasteHouseModel$DepositCodesModel" "doubleA" "[I") ∈ lw_all := lw_g (lw_at lw_m30 140 rfl) rfl
theorem q7493 : (Jvm.Cond.soleField "WasteHouseModel$DepositCodesModel" "doubleA") ∈ lw_all := lw_g (lw_at lw_m30 141 rfl) rfl
theorem q7494 : (Jvm.Cond.laysFinal "WasteHouseModel$DepositCodesModel" "WasteHouseModel$DepositCodesModel" "doubleB" "[I") ∈ lw_all := lw_g (lw_at lw_m30 142 rfl) rfl
theorem q7495 : (Jvm.Cond.soleField "WasteHouseModel$DepositCodesModel" "doubleB") ∈ lw_all := lw_g (lw_at lw_m30 143 rfl) rfl
theorem q7496 : (Jvm.Cond.lays "WasteHouseModel$DepositCodesModel" "WasteHouseModel$DepositCodesModel" "doubleCount" "I") ∈ lw_all := lw_g (lw_at lw_m30 144 rfl) rfl
theorem q7497 : (Jvm.Cond.soleField "WasteHouseModel$DepositCodesModel" "doubleCount") ∈ lw_all := lw_g (lw_at lw_m30 145 rfl) rfl
theorem q7498 : (Jvm.Cond.laysFinal "WasteHouseModel$DepositCodesModel" "WasteHouseModel$DepositCodesModel" "coupons" "[I") ∈ lw_all := lw_g (lw_at lw_m30 146 rfl) rfl
theorem q7499 : (Jvm.Cond.soleField "WasteHouseModel$DepositCodesModel" "coupons") ∈ lw_all := lw_g (lw_at lw_m30 147 rfl) rfl
theorem q7500 : (Jvm.Cond.laysFinal "WasteHouseModel$DepositCodesModel" "WasteHouseModel$DepositCodesModel" "redeemed" "[Z") ∈ lw_all := lw_g (lw_at lw_m30 148 rfl) rfl
theorem q7501 : (Jvm.Cond.soleField "WasteHouseModel$DepositCodesModel" "redeemed") ∈ lw_all := lw_g (lw_at lw_m30 149 rfl) rfl
theorem q7502 : (Jvm.Cond.lays "WasteHouseModel$DepositCodesModel" "WasteHouseModel$DepositCodesModel" "couponCount" "I") ∈ lw_all := lw_g (lw_at lw_m30 150 rfl) rfl
theorem q7503 : (Jvm.Cond.soleField "WasteHouseModel$DepositCodesModel" "couponCount") ∈ lw_all := lw_g (lw_at lw_m30 151 rfl) rfl
theorem q7504 : (Jvm.Cond.laysFinal "WasteHouseModel$DepositCodesModel" "WasteHouseModel$DepositCodesModel" "shops" "[J") ∈ lw_all := lw_g (lw_at lw_m30 152 rfl) rfl
theorem q7505 : (Jvm.Cond.soleField "WasteHouseModel$DepositCodesModel" "shops") ∈ lw_all := lw_g (lw_at lw_m30 153 rfl) rfl
theorem q7506 : (Jvm.Cond.laysFinal "WasteHouseModel$DepositCodesModel" "WasteHouseModel$DepositCodesModel" "balances" "[J") ∈ lw_all := lw_g (lw_at lw_m30 154 rfl) rfl
theorem q7507 : (Jvm.Cond.soleField "WasteHouseModel$DepositCodesModel" "balances") ∈ lw_all := lw_g (lw_at lw_m30 155 rfl) rfl
theorem q7508 : (Jvm.Cond.superclass "WasteHouseModel$DepositCodesModel" "java/lang/Object") ∈ lw_all := lw_g (lw_at lw_m30 156 rfl) rfl
theorem q8197 : (Jvm.Cond.instanceMethod ({ cls := "WasteHouseModel$DepositCodesModel", name := "give", desc := "(IJIIJ)I" } : Jvm.MethodName)) ∈ lw_all := lw_g (lw_at lw_m33 125 rfl) rfl
theorem q8198 : (Jvm.Cond.selects "WasteHouseModel$DepositCodesModel" ({ cls := "WasteHouseModel$DepositCodesModel", name := "give", desc := "(IJIIJ)I" } : Jvm.MethodName) ({ cls := "WasteHouseModel$DepositCodesModel", name := "give", desc := "(IJIIJ)I" } : Jvm.MethodName)) ∈ lw_all := lw_g (lw_at lw_m33 126 rfl) rfl
theorem q8199 : (Jvm.Cond.code ({ cls := "WasteHouseModel$DepositCodesModel", name := "give", desc := "(IJIIJ)I" } : Jvm.MethodName) prog_59_method_25_code (8 : Nat) (Option.some Jvm.ClassFile.FieldType.int)) ∈ lw_all := lw_g (lw_at lw_m33 127 rfl) rfl
theorem q8200 : (Jvm.Cond.constantLong "WasteHouseModel$DepositCodesModel" (117 : Nat) (999999999999999999 : Int64)) ∈ lw_all := lw_g (lw_at lw_m33 128 rfl) rfl
theorem q8201 : (Jvm.Cond.methodLink "WasteHouseModel$DepositCodesModel" (87 : Nat) ({ cls := "WasteHouseModel$DepositCodesModel", name := "isIn", desc := "(JJ)Z" } : Jvm.MethodName)) ∈ lw_all := lw_g (lw_at lw_m33 129 rfl) rfl
theorem q8202 : (Jvm.Cond.static ({ cls := "WasteHouseModel$DepositCodesModel", name := "isIn", desc := "(JJ)Z" } : Jvm.MethodName)) ∈ lw_all := lw_g (lw_at lw_m33 130 rfl) rfl
theorem q8203 : (Jvm.Cond.code ({ cls := "WasteHouseModel$DepositCodesModel", name := "isIn", desc := "(JJ)Z" } : Jvm.MethodName) prog_59_method_3_code (4 : Nat) (Option.some Jvm.ClassFile.FieldType.boolean)) ∈ lw_all := lw_g (lw_at lw_m33 131 rfl) rfl
theorem q8204 : (Jvm.Cond.constantLong "WasteHouseModel$DepositCodesModel" (153 : Nat) (100000000000 : Int64)) ∈ lw_all := lw_g (lw_at lw_m33 132 rfl) rfl
theorem q8205 : (Jvm.Cond.methodLink "WasteHouseModel$DepositCodesModel" (155 : Nat) ({ cls := "WasteHouseModel$DepositCodesModel", name := "reasonFor", desc := "(IJII)I" } : Jvm.MethodName)) ∈ lw_all := lw_g (lw_at lw_m33 133 rfl) rfl
theorem q8206 : (Jvm.Cond.privateMethod ({ cls := "WasteHouseModel$DepositCodesModel", name := "reasonFor", desc := "(IJII)I" } : Jvm.MethodName)) ∈ lw_tbl := lw_at lw_m33 134 rfl
theorem q8207 : (Jvm.Cond.instanceMethod ({ cls := "WasteHouseModel$DepositCodesModel", name := "reasonFor", desc := "(IJII)I" } : Jvm.MethodName)) ∈ lw_all := lw_g (lw_at lw_m33 135 rfl) rfl
theorem q8208 : (Jvm.Cond.code ({ cls := "WasteHouseModel$DepositCodesModel", name := "reasonFor", desc := "(IJII)I" } : Jvm.MethodName) prog_59_method_23_code (6 : Nat) (Option.some Jvm.ClassFile.FieldType.int)) ∈ lw_all := lw_g (lw_at lw_m33 136 rfl) rfl
theorem q8209 : (Jvm.Cond.methodLink "WasteHouseModel$DepositCodesModel" (136 : Nat) ({ cls := "WasteHouseModel$DepositCodesModel", name := "isMachine", desc := "(I)Z" } : Jvm.MethodName)) ∈ lw_all := lw_g (lw_at lw_m33 137 rfl) rfl
theorem q8210 : (Jvm.Cond.privateMethod ({ cls := "WasteHouseModel$DepositCodesModel", name := "isMachine", desc := "(I)Z" } : Jvm.MethodName)) ∈ lw_tbl := lw_at lw_m33 138 rfl
theorem q8211 : (Jvm.Cond.instanceMethod ({ cls := "WasteHouseModel$DepositCodesModel", name := "isMachine", desc := "(I)Z" } : Jvm.MethodName)) ∈ lw_all := lw_g (lw_at lw_m33 139 rfl) rfl
theorem q8212 : (Jvm.Cond.code ({ cls := "WasteHouseModel$DepositCodesModel", name := "isMachine", desc := "(I)Z" } : Jvm.MethodName) prog_59_method_17_code (2 : Nat) (Option.some Jvm.ClassFile.FieldType.boolean)) ∈ lw_all := lw_g (lw_at lw_m33 140 rfl) rfl
theorem q8213 : (Jvm.Cond.constantLong "WasteHouseModel$DepositCodesModel" (125 : Nat) (7 : Int64)) ∈ lw_all := lw_g (lw_at lw_m33 141 rfl) rfl
theorem q8214 : (Jvm.Cond.constantLong "WasteHouseModel$DepositCodesModel" (115 : Nat) (10 : Int64)) ∈ lw_all := lw_g (lw_at lw_m33 142 rfl) rfl
theorem q8215 : (Jvm.Cond.methodLink "WasteHouseModel$DepositCodesModel" (119 : Nat) ({ cls := "WasteHouseModel$DepositCodesModel", name := "checkOf", desc := "(IJ)I" } : Jvm.MethodName)) ∈ lw_all := lw_g (lw_at lw_m33 143 rfl) rfl
theorem q8216 : (Jvm.Cond.static ({ cls := "WasteHouseModel$DepositCodesModel", name := "checkOf", desc := "(IJ)I" } : Jvm.MethodName)) ∈ lw_all := lw_g (lw_at lw_m33 144 rfl) rfl
theorem q8217 : (Jvm.Cond.code ({ cls := "WasteHouseModel$DepositCodesModel", name := "checkOf", desc := "(IJ)I" } : Jvm.MethodName) prog_59_method_13_code (9 : Nat) (Option.some Jvm.ClassFile.FieldType.int)) ∈ lw_all := lw_g (lw_at lw_m33 145 rfl) rfl
theorem q8218 : (Jvm.Cond.methodLink "WasteHouseModel$DepositCodesModel" (143 : Nat) ({ cls := "WasteHouseModel$DepositCodesModel", name := "payingOf", desc := "(JI)I" } : Jvm.MethodName)) ∈ lw_all := lw_g (lw_at lw_m33 146 rfl) rfl
theorem q8219 : (Jvm.Cond.privateMethod ({ cls := "WasteHouseModel$DepositCodesModel", name := "payingOf", desc := "(JI)I" } : Jvm.MethodName)) ∈ lw_tbl := lw_at lw_m33 147 rfl
theorem q8220 : (Jvm.Cond.instanceMethod ({ cls := "WasteHouseModel$DepositCodesModel", name := "payingOf", desc := "(JI)I" } : Jvm.MethodName)) ∈ lw_all := lw_g (lw_at lw_m33 148 rfl) rfl
theorem q8221 : (Jvm.Cond.code ({ cls := "WasteHouseModel$DepositCodesModel", name := "payingOf", desc := "(JI)I" } : Jvm.MethodName) prog_59_method_22_code (6 : Nat) (Option.some Jvm.ClassFile.FieldType.int)) ∈ lw_all := lw_g (lw_at lw_m33 149 rfl) rfl
theorem q8222 : (Jvm.Cond.methodLink "WasteHouseModel$DepositCodesModel" (162 : Nat) ({ cls := "WasteHouseModel$DepositCodesModel", name := "refuse", desc := "(IJ)V" } : Jvm.MethodName)) ∈ lw_all := lw_g (lw_at lw_m33 150 rfl) rfl
theorem q8223 : (Jvm.Cond.privateMethod ({ cls := "WasteHouseModel$DepositCodesModel", name := "refuse", desc := "(IJ)V" } : Jvm.MethodName)) ∈ lw_tbl := lw_at lw_m33 151 rfl
theorem q8224 : (Jvm.Cond.instanceMethod ({ cls := "WasteHouseModel$DepositCodesModel", name := "refuse", desc := "(IJ)V" } : Jvm.MethodName)) ∈ lw_all := lw_g (lw_at lw_m33 152 rfl) rfl
theorem q8225 : (Jvm.Cond.code ({ cls := "WasteHouseModel$DepositCodesModel", name := "refuse", desc := "(IJ)V" } : Jvm.MethodName) prog_59_method_24_code (5 : Nat) (Option.none : Option Jvm.ClassFile.FieldType)) ∈ lw_all := lw_g (lw_at lw_m33 153 rfl) rfl
theorem q8226 : (Jvm.Cond.constantLong "WasteHouseModel$DepositCodesModel" (166 : Nat) (2592000 : Int64)) ∈ lw_all := lw_g (lw_at lw_m33 154 rfl) rfl
theorem q9417 : (Jvm.Cond.instanceMethod ({ cls := "WasteHouseModel$DepositCodesModel", name := "width", desc := "(II)Z" } : Jvm.MethodName)) ∈ lw_all := lw_g (lw_at lw_m38 145 rfl) rfl
theorem q9418 : (Jvm.Cond.selects "WasteHouseModel$DepositCodesModel" ({ cls := "WasteHouseModel$DepositCodesModel", name := "width", desc := "(II)Z" } : Jvm.MethodName) ({ cls := "WasteHouseModel$DepositCodesModel", name := "width", desc := "(II)Z" } : Jvm.MethodName)) ∈ lw_all := lw_g (lw_at lw_m38 146 rfl) rfl
theorem q9419 : (Jvm.Cond.code ({ cls := "WasteHouseModel$DepositCodesModel", name := "width", desc := "(II)Z" } : Jvm.MethodName) prog_59_method_4_code (3 : Nat) (Option.some Jvm.ClassFile.FieldType.boolean)) ∈ lw_all := lw_g (lw_at lw_m38 147 rfl) rfl
theorem q9420 : (Jvm.Cond.constantLong "WasteHouseModel$DepositCodesModel" (85 : Nat) (63 : Int64)) ∈ lw_all := lw_g (lw_at lw_m38 148 rfl) rfl
theorem q9421 : (Jvm.Cond.constantLong "WasteHouseModel$DepositCodesModel" (91 : Nat) (1000 : Int64)) ∈ lw_all := lw_g (lw_at lw_m38 149 rfl) rfl
theorem q9423 : (Jvm.Cond.instanceMethod ({ cls := "WasteHouseModel$DepositCodesModel", name := "read", desc := "()I" } : Jvm.MethodName)) ∈ lw_all := lw_g (lw_at lw_m38 151 rfl) rfl
theorem q9424 : (Jvm.Cond.selects "WasteHouseModel$DepositCodesModel" ({ cls := "WasteHouseModel$DepositCodesModel", name := "read", desc := "()I" } : Jvm.MethodName) ({ cls := "WasteHouseModel$DepositCodesModel", name := "read", desc := "()I" } : Jvm.MethodName)) ∈ lw_all := lw_g (lw_at lw_m38 152 rfl) rfl
theorem q9425 : (Jvm.Cond.code ({ cls := "WasteHouseModel$DepositCodesModel", name := "read", desc := "()I" } : Jvm.MethodName) prog_59_method_10_code (1 : Nat) (Option.some Jvm.ClassFile.FieldType.int)) ∈ lw_all := lw_g (lw_at lw_m38 153 rfl) rfl
theorem q9426 : (Jvm.Cond.methodLink "WasteHouseModel$DepositCodesModel" (111 : Nat) ({ cls := "WasteHouseModel$DepositCodesModel", name := "readSo", desc := "(Z)Z" } : Jvm.MethodName)) ∈ lw_all := lw_g (lw_at lw_m38 154 rfl) rfl
theorem q9427 : (Jvm.Cond.privateMethod ({ cls := "WasteHouseModel$DepositCodesModel", name := "readSo", desc := "(Z)Z" } : Jvm.MethodName)) ∈ lw_tbl := lw_at lw_m38 155 rfl
theorem q9428 : (Jvm.Cond.instanceMethod ({ cls := "WasteHouseModel$DepositCodesModel", name := "readSo", desc := "(Z)Z" } : Jvm.MethodName)) ∈ lw_all := lw_g (lw_at lw_m38 156 rfl) rfl
theorem q9429 : (Jvm.Cond.code ({ cls := "WasteHouseModel$DepositCodesModel", name := "readSo", desc := "(Z)Z" } : Jvm.MethodName) prog_59_method_9_code (6 : Nat) (Option.some Jvm.ClassFile.FieldType.boolean)) ∈ lw_all := lw_g (lw_at lw_m38 157 rfl) rfl
theorem q9430 : (Jvm.Cond.methodLink "WasteHouseModel$DepositCodesModel" (93 : Nat) ({ cls := "WasteHouseModel$DepositCodesModel", name := "size", desc := "()I" } : Jvm.MethodName)) ∈ lw_all := lw_g (lw_at lw_m38 158 rfl) rfl
theorem q9431 : (Jvm.Cond.privateMethod ({ cls := "WasteHouseModel$DepositCodesModel", name := "size", desc := "()I" } : Jvm.MethodName)) ∈ lw_tbl := lw_at lw_m38 159 rfl
theorem q9432 : (Jvm.Cond.instanceMethod ({ cls := "WasteHouseModel$DepositCodesModel", name := "size", desc := "()I" } : Jvm.MethodName)) ∈ lw_all := lw_g (lw_at lw_m38 160 rfl) rfl
theorem q9433 : (Jvm.Cond.code ({ cls := "WasteHouseModel$DepositCodesModel", name := "size", desc := "()I" } : Jvm.MethodName) prog_59_method_5_code (2 : Nat) (Option.some Jvm.ClassFile.FieldType.int)) ∈ lw_all := lw_g (lw_at lw_m38 161 rfl) rfl
theorem q9434 : (Jvm.Cond.methodLink "WasteHouseModel$DepositCodesModel" (97 : Nat) ({ cls := "WasteHouseModel$DepositCodesModel", name := "at", desc := "(IZ)I" } : Jvm.MethodName)) ∈ lw_all := lw_g (lw_at lw_m38 162 rfl) rfl
theorem q9435 : (Jvm.Cond.privateMethod ({ cls := "WasteHouseModel$DepositCodesModel", name := "at", desc := "(IZ)I" } : Jvm.MethodName)) ∈ lw_tbl := lw_at lw_m38 163 rfl
theorem q9436 : (Jvm.Cond.instanceMethod ({ cls := "WasteHouseModel$DepositCodesModel", name := "at", desc := "(IZ)I" } : Jvm.MethodName)) ∈ lw_all := lw_g (lw_at lw_m38 164 rfl) rfl
theorem q9437 : (Jvm.Cond.code ({ cls := "WasteHouseModel$DepositCodesModel", name := "at", desc := "(IZ)I" } : Jvm.MethodName) prog_59_method_6_code (3 : Nat) (Option.some Jvm.ClassFile.FieldType.int)) ∈ lw_all := lw_g (lw_at lw_m38 165 rfl) rfl
theorem q9438 : (Jvm.Cond.methodLink "WasteHouseModel$DepositCodesModel" (108 : Nat) ({ cls := "WasteHouseModel$DepositCodesModel", name := "digitAt", desc := "(IZ)I" } : Jvm.MethodName)) ∈ lw_all := lw_g (lw_at lw_m38 166 rfl) rfl
theorem q9439 : (Jvm.Cond.privateMethod ({ cls := "WasteHouseModel$DepositCodesModel", name := "digitAt", desc := "(IZ)I" } : Jvm.MethodName)) ∈ lw_tbl := lw_at lw_m38 167 rfl
theorem q9440 : (Jvm.Cond.instanceMethod ({ cls := "WasteHouseModel$DepositCodesModel", name := "digitAt", desc := "(IZ)I" } : Jvm.MethodName)) ∈ lw_all := lw_g (lw_at lw_m38 168 rfl) rfl
theorem q9441 : (Jvm.Cond.code ({ cls := "WasteHouseModel$DepositCodesModel", name := "digitAt", desc := "(IZ)I" } : Jvm.MethodName) prog_59_method_8_code (8 : Nat) (Option.some Jvm.ClassFile.FieldType.int)) ∈ lw_all := lw_g (lw_at lw_m38 169 rfl) rfl
theorem q9442 : (Jvm.Cond.methodLink "WasteHouseModel$DepositCodesModel" (101 : Nat) ({ cls := "WasteHouseModel$DepositCodesModel", name := "pattern", desc := "(II)I" } : Jvm.MethodName)) ∈ lw_all := lw_g (lw_at lw_m38 170 rfl) rfl
theorem q9443 : (Jvm.Cond.static ({ cls := "WasteHouseModel$DepositCodesModel", name := "pattern", desc := "(II)I" } : Jvm.MethodName)) ∈ lw_all := lw_g (lw_at lw_m38 171 rfl) rfl
theorem q9444 : (Jvm.Cond.code ({ cls := "WasteHouseModel$DepositCodesModel", name := "pattern", desc := "(II)I" } : Jvm.MethodName) prog_59_method_7_code (4 : Nat) (Option.some Jvm.ClassFile.FieldType.int)) ∈ lw_all := lw_g (lw_at lw_m38 172 rfl) rfl
theorem q9447 : (Jvm.Cond.instanceMethod ({ cls := "WasteHouseModel$DepositCodesModel", name := "back", desc := "()I" } : Jvm.MethodName)) ∈ lw_all := lw_g (lw_at lw_m38 175 rfl) rfl
theorem q9448 : (Jvm.Cond.selects "WasteHouseModel$DepositCodesModel" ({ cls := "WasteHouseModel$DepositCodesModel", name := "back", desc := "()I" } : Jvm.MethodName) ({ cls := "WasteHouseModel$DepositCodesModel", name := "back", desc := "()I" } : Jvm.MethodName)) ∈ lw_all := lw_g (lw_at lw_m38 176 rfl) rfl
theorem q9449 : (Jvm.Cond.code ({ cls := "WasteHouseModel$DepositCodesModel", name := "back", desc := "()I" } : Jvm.MethodName) prog_59_method_11_code (1 : Nat) (Option.some Jvm.ClassFile.FieldType.int)) ∈ lw_all := lw_g (lw_at lw_m38 177 rfl) rfl
theorem q9452 : (Jvm.Cond.instanceMethod ({ cls := "WasteHouseModel$DepositCodesModel", name := "digit", desc := "(I)I" } : Jvm.MethodName)) ∈ lw_all := lw_g (lw_at lw_m38 180 rfl) rfl
theorem q9453 : (Jvm.Cond.selects "WasteHouseModel$DepositCodesModel" ({ cls := "WasteHouseModel$DepositCodesModel", name := "digit", desc := "(I)I" } : Jvm.MethodName) ({ cls := "WasteHouseModel$DepositCodesModel", name := "digit", desc := "(I)I" } : Jvm.MethodName)) ∈ lw_all := lw_g (lw_at lw_m38 181 rfl) rfl
theorem q9454 : (Jvm.Cond.code ({ cls := "WasteHouseModel$DepositCodesModel", name := "digit", desc := "(I)I" } : Jvm.MethodName) prog_59_method_12_code (2 : Nat) (Option.some Jvm.ClassFile.FieldType.int)) ∈ lw_all := lw_g (lw_at lw_m38 182 rfl) rfl
theorem q9456 : (Jvm.Cond.instanceMethod ({ cls := "WasteHouseModel$DepositCodesModel", name := "check", desc := "(IJ)I" } : Jvm.MethodName)) ∈ lw_all := lw_g (lw_at lw_m38 184 rfl) rfl
theorem q9457 : (Jvm.Cond.selects "WasteHouseModel$DepositCodesModel" ({ cls := "WasteHouseModel$DepositCodesModel", name := "check", desc := "(IJ)I" } : Jvm.MethodName) ({ cls := "WasteHouseModel$DepositCodesModel", name := "check", desc := "(IJ)I" } : Jvm.MethodName)) ∈ lw_all := lw_g (lw_at lw_m38 185 rfl) rfl
theorem q9458 : (Jvm.Cond.code ({ cls := "WasteHouseModel$DepositCodesModel", name := "check", desc := "(IJ)I" } : Jvm.MethodName) prog_59_method_14_code (4 : Nat) (Option.some Jvm.ClassFile.FieldType.int)) ∈ lw_all := lw_g (lw_at lw_m38 186 rfl) rfl
theorem q9461 : (Jvm.Cond.instanceMethod ({ cls := "WasteHouseModel$DepositCodesModel", name := "good", desc := "(IJ)Z" } : Jvm.MethodName)) ∈ lw_all := lw_g (lw_at lw_m38 189 rfl) rfl
theorem q9462 : (Jvm.Cond.selects "WasteHouseModel$DepositCodesModel" ({ cls := "WasteHouseModel$DepositCodesModel", name := "good", desc := "(IJ)Z" } : Jvm.MethodName) ({ cls := "WasteHouseModel$DepositCodesModel", name := "good", desc := "(IJ)Z" } : Jvm.MethodName)) ∈ lw_all := lw_g (lw_at lw_m38 190 rfl) rfl
theorem q9463 : (Jvm.Cond.code ({ cls := "WasteHouseModel$DepositCodesModel", name := "good", desc := "(IJ)Z" } : Jvm.MethodName) prog_59_method_15_code (4 : Nat) (Option.some Jvm.ClassFile.FieldType.boolean)) ∈ lw_all := lw_g (lw_at lw_m38 191 rfl) rfl
theorem q9465 : (Jvm.Cond.instanceMethod ({ cls := "WasteHouseModel$DepositCodesModel", name := "machine", desc := "()I" } : Jvm.MethodName)) ∈ lw_all := lw_g (lw_at lw_m38 193 rfl) rfl
theorem q9466 : (Jvm.Cond.selects "WasteHouseModel$DepositCodesModel" ({ cls := "WasteHouseModel$DepositCodesModel", name := "machine", desc := "()I" } : Jvm.MethodName) ({ cls := "WasteHouseModel$DepositCodesModel", name := "machine", desc := "()I" } : Jvm.MethodName)) ∈ lw_all := lw_g (lw_at lw_m38 194 rfl) rfl
theorem q9467 : (Jvm.Cond.code ({ cls := "WasteHouseModel$DepositCodesModel", name := "machine", desc := "()I" } : Jvm.MethodName) prog_59_method_18_code (1 : Nat) (Option.some Jvm.ClassFile.FieldType.int)) ∈ lw_all := lw_g (lw_at lw_m38 195 rfl) rfl
theorem q9470 : (Jvm.Cond.instanceMethod ({ cls := "WasteHouseModel$DepositCodesModel", name := "shape", desc := "(III)Z" } : Jvm.MethodName)) ∈ lw_all := lw_g (lw_at lw_m38 198 rfl) rfl
theorem q9471 : (Jvm.Cond.selects "WasteHouseModel$DepositCodesModel" ({ cls := "WasteHouseModel$DepositCodesModel", name := "shape", desc := "(III)Z" } : Jvm.MethodName) ({ cls := "WasteHouseModel$DepositCodesModel", name := "shape", desc := "(III)Z" } : Jvm.MethodName)) ∈ lw_all := lw_g (lw_at lw_m38 199 rfl) rfl
theorem q9472 : (Jvm.Cond.code ({ cls := "WasteHouseModel$DepositCodesModel", name := "shape", desc := "(III)Z" } : Jvm.MethodName) prog_59_method_19_code (4 : Nat) (Option.some Jvm.ClassFile.FieldType.boolean)) ∈ lw_all := lw_g (lw_at lw_m38 200 rfl) rfl
theorem q9473 : (Jvm.Cond.constantLong "WasteHouseModel$DepositCodesModel" (134 : Nat) (100000 : Int64)) ∈ lw_all := lw_g (lw_at lw_m38 201 rfl) rfl
theorem q9477 : (Jvm.Cond.instanceMethod ({ cls := "WasteHouseModel$DepositCodesModel", name := "full", desc := "(IZ)Z" } : Jvm.MethodName)) ∈ lw_all := lw_g (lw_at lw_m38 205 rfl) rfl
theorem q9478 : (Jvm.Cond.selects "WasteHouseModel$DepositCodesModel" ({ cls := "WasteHouseModel$DepositCodesModel", name := "full", desc := "(IZ)Z" } : Jvm.MethodName) ({ cls := "WasteHouseModel$DepositCodesModel", name := "full", desc := "(IZ)Z" } : Jvm.MethodName)) ∈ lw_all := lw_g (lw_at lw_m38 206 rfl) rfl
theorem q9479 : (Jvm.Cond.code ({ cls := "WasteHouseModel$DepositCodesModel", name := "full", desc := "(IZ)Z" } : Jvm.MethodName) prog_59_method_20_code (3 : Nat) (Option.some Jvm.ClassFile.FieldType.boolean)) ∈ lw_all := lw_g (lw_at lw_m38 207 rfl) rfl
theorem q9482 : (Jvm.Cond.instanceMethod ({ cls := "WasteHouseModel$DepositCodesModel", name := "power", desc := "(IZ)Z" } : Jvm.MethodName)) ∈ lw_all := lw_g (lw_at lw_m38 210 rfl) rfl
theorem q9483 : (Jvm.Cond.selects "WasteHouseModel$DepositCodesModel" ({ cls := "WasteHouseModel$DepositCodesModel", name := "power", desc := "(IZ)Z" } : Jvm.MethodName) ({ cls := "WasteHouseModel$DepositCodesModel", name := "power", desc := "(IZ)Z" } : Jvm.MethodName)) ∈ lw_all := lw_g (lw_at lw_m38 211 rfl) rfl
theorem q9484 : (Jvm.Cond.code ({ cls := "WasteHouseModel$DepositCodesModel", name := "power", desc := "(IZ)Z" } : Jvm.MethodName) prog_59_method_21_code (3 : Nat) (Option.some Jvm.ClassFile.FieldType.boolean)) ∈ lw_all := lw_g (lw_at lw_m38 212 rfl) rfl
theorem q9488 : (Jvm.Cond.instanceMethod ({ cls := "WasteHouseModel$DepositCodesModel", name := "reason", desc := "()I" } : Jvm.MethodName)) ∈ lw_all := lw_g (lw_at lw_m38 216 rfl) rfl
theorem q9489 : (Jvm.Cond.selects "WasteHouseModel$DepositCodesModel" ({ cls := "WasteHouseModel$DepositCodesModel", name := "reason", desc := "()I" } : Jvm.MethodName) ({ cls := "WasteHouseModel$DepositCodesModel", name := "reason", desc := "()I" } : Jvm.MethodName)) ∈ lw_all := lw_g (lw_at lw_m38 217 rfl) rfl
theorem q9490 : (Jvm.Cond.code ({ cls := "WasteHouseModel$DepositCodesModel", name := "reason", desc := "()I" } : Jvm.MethodName) prog_59_method_26_code (1 : Nat) (Option.some Jvm.ClassFile.FieldType.int)) ∈ lw_all := lw_g (lw_at lw_m38 218 rfl) rfl
theorem q9493 : (Jvm.Cond.instanceMethod ({ cls := "WasteHouseModel$DepositCodesModel", name := "count", desc := "(II)J" } : Jvm.MethodName)) ∈ lw_all := lw_g (lw_at lw_m38 221 rfl) rfl
theorem q9494 : (Jvm.Cond.selects "WasteHouseModel$DepositCodesModel" ({ cls := "WasteHouseModel$DepositCodesModel", name := "count", desc := "(II)J" } : Jvm.MethodName) ({ cls := "WasteHouseModel$DepositCodesModel", name := "count", desc := "(II)J" } : Jvm.MethodName)) ∈ lw_all := lw_g (lw_at lw_m38 222 rfl) rfl
theorem q9495 : (Jvm.Cond.code ({ cls := "WasteHouseModel$DepositCodesModel", name := "count", desc := "(II)J" } : Jvm.MethodName) prog_59_method_27_code (5 : Nat) (Option.some Jvm.ClassFile.FieldType.long)) ∈ lw_all := lw_g (lw_at lw_m38 223 rfl) rfl
theorem q9496 : (Jvm.Cond.constantLong "WasteHouseModel$DepositCodesModel" (168 : Nat) (-1 : Int64)) ∈ lw_all := lw_g (lw_at lw_m38 224 rfl) rfl
theorem q9498 : (Jvm.Cond.instanceMethod ({ cls := "WasteHouseModel$DepositCodesModel", name := "join", desc := "(II)I" } : Jvm.MethodName)) ∈ lw_all := lw_g (lw_at lw_m38 226 rfl) rfl
theorem q9499 : (Jvm.Cond.selects "WasteHouseModel$DepositCodesModel" ({ cls := "WasteHouseModel$DepositCodesModel", name := "join", desc := "(II)I" } : Jvm.MethodName) ({ cls := "WasteHouseModel$DepositCodesModel", name := "join", desc := "(II)I" } : Jvm.MethodName)) ∈ lw_all := lw_g (lw_at lw_m38 227 rfl) rfl
theorem q9500 : (Jvm.Cond.code ({ cls := "WasteHouseModel$DepositCodesModel", name := "join", desc := "(II)I" } : Jvm.MethodName) prog_59_method_28_code (8 : Nat) (Option.some Jvm.ClassFile.FieldType.int)) ∈ lw_all := lw_g (lw_at lw_m38 228 rfl) rfl
theorem q9501 : (Jvm.Cond.methodLink "WasteHouseModel$DepositCodesModel" (173 : Nat) ({ cls := "WasteHouseModel$DepositCodesModel", name := "insert", desc := "(IJII)V" } : Jvm.MethodName)) ∈ lw_all := lw_g (lw_at lw_m38 229 rfl) rfl
theorem q9502 : (Jvm.Cond.privateMethod ({ cls := "WasteHouseModel$DepositCodesModel", name := "insert", desc := "(IJII)V" } : Jvm.MethodName)) ∈ lw_tbl := lw_at lw_m38 230 rfl
theorem q9503 : (Jvm.Cond.instanceMethod ({ cls := "WasteHouseModel$DepositCodesModel", name := "insert", desc := "(IJII)V" } : Jvm.MethodName)) ∈ lw_all := lw_g (lw_at lw_m38 231 rfl) rfl
theorem q9504 : (Jvm.Cond.code ({ cls := "WasteHouseModel$DepositCodesModel", name := "insert", desc := "(IJII)V" } : Jvm.MethodName) prog_59_method_29_code (7 : Nat) (Option.none : Option Jvm.ClassFile.FieldType)) ∈ lw_all := lw_g (lw_at lw_m38 232 rfl) rfl
theorem q9507 : (Jvm.Cond.instanceMethod ({ cls := "WasteHouseModel$DepositCodesModel", name := "double2", desc := "(II)I" } : Jvm.MethodName)) ∈ lw_all := lw_g (lw_at lw_m38 235 rfl) rfl
theorem q9508 : (Jvm.Cond.selects "WasteHouseModel$DepositCodesModel" ({ cls := "WasteHouseModel$DepositCodesModel", name := "double2", desc := "(II)I" } : Jvm.MethodName) ({ cls := "WasteHouseModel$DepositCodesModel", name := "double2", desc := "(II)I" } : Jvm.MethodName)) ∈ lw_all := lw_g (lw_at lw_m38 236 rfl) rfl
theorem q9509 : (Jvm.Cond.code ({ cls := "WasteHouseModel$DepositCodesModel", name := "double2", desc := "(II)I" } : Jvm.MethodName) prog_59_method_31_code (7 : Nat) (Option.some Jvm.ClassFile.FieldType.int)) ∈ lw_all := lw_g (lw_at lw_m38 237 rfl) rfl
theorem q9510 : (Jvm.Cond.methodLink "WasteHouseModel$DepositCodesModel" (179 : Nat) ({ cls := "WasteHouseModel$DepositCodesModel", name := "decimals", desc := "(J)I" } : Jvm.MethodName)) ∈ lw_all := lw_g (lw_at lw_m38 238 rfl) rfl
theorem q9511 : (Jvm.Cond.static ({ cls := "WasteHouseModel$DepositCodesModel", name := "decimals", desc := "(J)I" } : Jvm.MethodName)) ∈ lw_all := lw_g (lw_at lw_m38 239 rfl) rfl
theorem q9512 : (Jvm.Cond.code ({ cls := "WasteHouseModel$DepositCodesModel", name := "decimals", desc := "(J)I" } : Jvm.MethodName) prog_59_method_30_code (5 : Nat) (Option.some Jvm.ClassFile.FieldType.int)) ∈ lw_all := lw_g (lw_at lw_m39 0 rfl) rfl
theorem q9513 : (Jvm.Cond.constantLong "WasteHouseModel$DepositCodesModel" (177 : Nat) (9 : Int64)) ∈ lw_all := lw_g (lw_at lw_m39 1 rfl) rfl
theorem q9515 : (Jvm.Cond.instanceMethod ({ cls := "WasteHouseModel$DepositCodesModel", name := "mark", desc := "(JJJ)Z" } : Jvm.MethodName)) ∈ lw_all := lw_g (lw_at lw_m39 3 rfl) rfl
theorem q9516 : (Jvm.Cond.selects "WasteHouseModel$DepositCodesModel" ({ cls := "WasteHouseModel$DepositCodesModel", name := "mark", desc := "(JJJ)Z" } : Jvm.MethodName) ({ cls := "WasteHouseModel$DepositCodesModel", name := "mark", desc := "(JJJ)Z" } : Jvm.MethodName)) ∈ lw_all := lw_g (lw_at lw_m39 4 rfl) rfl
theorem q9517 : (Jvm.Cond.code ({ cls := "WasteHouseModel$DepositCodesModel", name := "mark", desc := "(JJJ)Z" } : Jvm.MethodName) prog_59_method_16_code (11 : Nat) (Option.some Jvm.ClassFile.FieldType.boolean)) ∈ lw_all := lw_g (lw_at lw_m39 5 rfl) rfl
theorem q9518 : (Jvm.Cond.constantLong "WasteHouseModel$DepositCodesModel" (123 : Nat) (99991 : Int64)) ∈ lw_all := lw_g (lw_at lw_m39 6 rfl) rfl
theorem q9519 : (Jvm.Cond.constantLong "WasteHouseModel$DepositCodesModel" (127 : Nat) (13 : Int64)) ∈ lw_all := lw_g (lw_at lw_m39 7 rfl) rfl
theorem q9520 : (Jvm.Cond.constantLong "WasteHouseModel$DepositCodesModel" (129 : Nat) (10000 : Int64)) ∈ lw_all := lw_g (lw_at lw_m39 8 rfl) rfl
theorem q9523 : (Jvm.Cond.instanceMethod ({ cls := "WasteHouseModel$DepositCodesModel", name := "coupon", desc := "(I)I" } : Jvm.MethodName)) ∈ lw_all := lw_g (lw_at lw_m39 11 rfl) rfl
theorem q9524 : (Jvm.Cond.selects "WasteHouseModel$DepositCodesModel" ({ cls := "WasteHouseModel$DepositCodesModel", name := "coupon", desc := "(I)I" } : Jvm.MethodName) ({ cls := "WasteHouseModel$DepositCodesModel", name := "coupon", desc := "(I)I" } : Jvm.MethodName)) ∈ lw_all := lw_g (lw_at lw_m39 12 rfl) rfl
theorem q9525 : (Jvm.Cond.code ({ cls := "WasteHouseModel$DepositCodesModel", name := "coupon", desc := "(I)I" } : Jvm.MethodName) prog_59_method_32_code (4 : Nat) (Option.some Jvm.ClassFile.FieldType.int)) ∈ lw_all := lw_g (lw_at lw_m39 13 rfl) rfl
theorem q9528 : (Jvm.Cond.instanceMethod ({ cls := "WasteHouseModel$DepositCodesModel", name := "redeem", desc := "(II)Z" } : Jvm.MethodName)) ∈ lw_all := lw_g (lw_at lw_m39 16 rfl) rfl
theorem q9529 : (Jvm.Cond.selects "WasteHouseModel$DepositCodesModel" ({ cls := "WasteHouseModel$DepositCodesModel", name := "redeem", desc := "(II)Z" } : Jvm.MethodName) ({ cls := "WasteHouseModel$DepositCodesModel", name := "redeem", desc := "(II)Z" } : Jvm.MethodName)) ∈ lw_all := lw_g (lw_at lw_m39 17 rfl) rfl
theorem q9530 : (Jvm.Cond.code ({ cls := "WasteHouseModel$DepositCodesModel", name := "redeem", desc := "(II)Z" } : Jvm.MethodName) prog_59_method_33_code (3 : Nat) (Option.some Jvm.ClassFile.FieldType.boolean)) ∈ lw_all := lw_g (lw_at lw_m39 18 rfl) rfl
theorem q9531 : (Jvm.Cond.constantLong "WasteHouseModel$DepositCodesModel" (186 : Nat) (99 : Int64)) ∈ lw_all := lw_g (lw_at lw_m39 19 rfl) rfl
theorem q9534 : (Jvm.Cond.instanceMethod ({ cls := "WasteHouseModel$DepositCodesModel", name := "shop", desc := "(I)J" } : Jvm.MethodName)) ∈ lw_all := lw_g (lw_at lw_m39 22 rfl) rfl
theorem q9535 : (Jvm.Cond.selects "WasteHouseModel$DepositCodesModel" ({ cls := "WasteHouseModel$DepositCodesModel", name := "shop", desc := "(I)J" } : Jvm.MethodName) ({ cls := "WasteHouseModel$DepositCodesModel", name := "shop", desc := "(I)J" } : Jvm.MethodName)) ∈ lw_all := lw_g (lw_at lw_m39 23 rfl) rfl
theorem q9536 : (Jvm.Cond.code ({ cls := "WasteHouseModel$DepositCodesModel", name := "shop", desc := "(I)J" } : Jvm.MethodName) prog_59_method_34_code (2 : Nat) (Option.some Jvm.ClassFile.FieldType.long)) ∈ lw_all := lw_g (lw_at lw_m39 24 rfl) rfl
theorem q9538 : (Jvm.Cond.instanceMethod ({ cls := "WasteHouseModel$DepositCodesModel", name := "clear", desc := "(I)I" } : Jvm.MethodName)) ∈ lw_all := lw_g (lw_at lw_m39 26 rfl) rfl
theorem q9539 : (Jvm.Cond.selects "WasteHouseModel$DepositCodesModel" ({ cls := "WasteHouseModel$DepositCodesModel", name := "clear", desc := "(I)I" } : Jvm.MethodName) ({ cls := "WasteHouseModel$DepositCodesModel", name := "clear", desc := "(I)I" } : Jvm.MethodName)) ∈ lw_all := lw_g (lw_at lw_m39 27 rfl) rfl
theorem q9540 : (Jvm.Cond.code ({ cls := "WasteHouseModel$DepositCodesModel", name := "clear", desc := "(I)I" } : Jvm.MethodName) prog_59_method_35_code (5 : Nat) (Option.some Jvm.ClassFile.FieldType.int)) ∈ lw_all := lw_g (lw_at lw_m39 28 rfl) rfl
theorem q9541 : (Jvm.Cond.constantLong "WasteHouseModel$DepositCodesModel" (188 : Nat) (40000 : Int64)) ∈ lw_all := lw_g (lw_at lw_m39 29 rfl) rfl
theorem q9542 : (Jvm.Cond.constantLong "WasteHouseModel$DepositCodesModel" (190 : Nat) (25 : Int64)) ∈ lw_all := lw_g (lw_at lw_m39 30 rfl) rfl
theorem q9543 : (Jvm.Cond.constantLong "WasteHouseModel$DepositCodesModel" (192 : Nat) (3 : Int64)) ∈ lw_all := lw_g (lw_at lw_m39 31 rfl) rfl
theorem q9546 : (Jvm.Cond.instanceMethod ({ cls := "WasteHouseModel$DepositCodesModel", name := "cleared", desc := "(I)J" } : Jvm.MethodName)) ∈ lw_all := lw_g (lw_at lw_m39 34 rfl) rfl
theorem q9547 : (Jvm.Cond.selects "WasteHouseModel$DepositCodesModel" ({ cls := "WasteHouseModel$DepositCodesModel", name := "cleared", desc := "(I)J" } : Jvm.MethodName) ({ cls := "WasteHouseModel$DepositCodesModel", name := "cleared", desc := "(I)J" } : Jvm.MethodName)) ∈ lw_all := lw_g (lw_at lw_m39 35 rfl) rfl
theorem q9548 : (Jvm.Cond.code ({ cls := "WasteHouseModel$DepositCodesModel", name := "cleared", desc := "(I)J" } : Jvm.MethodName) prog_59_method_36_code (2 : Nat) (Option.some Jvm.ClassFile.FieldType.long)) ∈ lw_all := lw_g (lw_at lw_m39 36 rfl) rfl
theorem q9549 : (Jvm.Cond.constantLong "WasteHouseModel$DepositCodesModel" (194 : Nat) (2 : Int64)) ∈ lw_all := lw_g (lw_at lw_m39 37 rfl) rfl
theorem q9552 : (Jvm.Cond.instanceMethod ({ cls := "WasteHouseModel$DepositCodesModel", name := "fraud", desc := "(I)I" } : Jvm.MethodName)) ∈ lw_all := lw_g (lw_at lw_m39 40 rfl) rfl
theorem q9553 : (Jvm.Cond.selects "WasteHouseModel$DepositCodesModel" ({ cls := "WasteHouseModel$DepositCodesModel", name := "fraud", desc := "(I)I" } : Jvm.MethodName) ({ cls := "WasteHouseModel$DepositCodesModel", name := "fraud", desc := "(I)I" } : Jvm.MethodName)) ∈ lw_all := lw_g (lw_at lw_m39 41 rfl) rfl
theorem q9554 : (Jvm.Cond.code ({ cls := "WasteHouseModel$DepositCodesModel", name := "fraud", desc := "(I)I" } : Jvm.MethodName) prog_59_method_37_code (2 : Nat) (Option.some Jvm.ClassFile.FieldType.int)) ∈ lw_all := lw_g (lw_at lw_m39 42 rfl) rfl
theorem q9556 : (Jvm.Cond.instanceMethod ({ cls := "WasteHouseModel$DepositCodesModel", name := "thrown", desc := "()I" } : Jvm.MethodName)) ∈ lw_all := lw_g (lw_at lw_m39 44 rfl) rfl
theorem q9557 : (Jvm.Cond.selects "WasteHouseModel$DepositCodesModel" ({ cls := "WasteHouseModel$DepositCodesModel", name := "thrown", desc := "()I" } : Jvm.MethodName) ({ cls := "WasteHouseModel$DepositCodesModel", name := "thrown", desc := "()I" } : Jvm.MethodName)) ∈ lw_all := lw_g (lw_at lw_m39 45 rfl) rfl
theorem q9558 : (Jvm.Cond.code ({ cls := "WasteHouseModel$DepositCodesModel", name := "thrown", desc := "()I" } : Jvm.MethodName) prog_59_method_2_code (1 : Nat) (Option.some Jvm.ClassFile.FieldType.int)) ∈ lw_all := lw_g (lw_at lw_m39 46 rfl) rfl
theorem q9680 : (Jvm.Cond.castable "WasteHouseModel$DepositCodesModel" "java/lang/Object") ∈ lw_tbl := lw_at lw_m39 168 rfl
theorem in_X57 : ∀ w ∈ wsX570, w ∈ lw_all := lw_in wsX570 [7444, 7446, 7448, 7450, 7452, 7454, 7456, 7458, 7460, 7462, 7464, 7466, 7468, 7470, 7472, 7474, 7476, 7478, 7480, 7482, 7484, 7486, 7488, 7490, 7492, 7494, 7496, 7498, 7500, 7502, 7504, 7506] (by decide +kernel) (by decide +kernel)
