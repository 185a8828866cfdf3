/-! WasteHouseModel$PurityOddsModel -/
set_option maxRecDepth 100000
def RX56 : String := "WasteHouseModel$PurityOddsModel"
def TX56 : u_T := fun k => match k with
  | 0 => ("WasteHouseModel$PurityOddsModel", "seed", "J", true)
  | 1 => ("WasteHouseModel$PurityOddsModel", "plans", "I", false)
  | 2 => ("WasteHouseModel$PurityOddsModel", "sizes", "[I", true)
  | 3 => ("WasteHouseModel$PurityOddsModel", "mosts", "[I", true)
  | 4 => ("WasteHouseModel$PurityOddsModel", "shares", "[I", true)
  | 5 => ("WasteHouseModel$PurityOddsModel", "hasShares", "Z", false)
  | 6 => ("WasteHouseModel$PurityOddsModel", "lots", "I", false)
  | 7 => ("WasteHouseModel$PurityOddsModel", "weights", "[J", true)
  | 8 => ("WasteHouseModel$PurityOddsModel", "pieces", "[I", true)
  | 9 => ("WasteHouseModel$PurityOddsModel", "kinds", "[I", true)
  | 10 => ("WasteHouseModel$PurityOddsModel", "grams", "[J", true)
  | 11 => ("WasteHouseModel$PurityOddsModel", "judgedAbove", "[I", true)
  | 12 => ("WasteHouseModel$PurityOddsModel", "judgedBelow", "[I", true)
  | 13 => ("WasteHouseModel$PurityOddsModel", "rows", "[I", true)
  | 14 => ("WasteHouseModel$PurityOddsModel", "hours", "[J", true)
  | 15 => ("WasteHouseModel$PurityOddsModel", "dried", "[J", true)
  | 16 => ("WasteHouseModel$PurityOddsModel", "steps", "I", false)
  | 17 => ("WasteHouseModel$PurityOddsModel", "stepAbove", "[I", true)
  | 18 => ("WasteHouseModel$PurityOddsModel", "stepBelow", "[I", true)
  | 19 => ("WasteHouseModel$PurityOddsModel", "stepCents", "[I", true)
  | 20 => ("WasteHouseModel$PurityOddsModel", "ways", "[J", true)
  | 21 => ("WasteHouseModel$PurityOddsModel", "order", "[I", true)
  | 22 => ("WasteHouseModel$PurityOddsModel", "over", "J", false)
  | _ => ("WasteHouseModel$PurityOddsModel", "under", "J", false)
def tyX56 : Nat → FieldType := fun k => match k with
  | 0 => .long
  | 1 => .int
  | 2 => .array .int
  | 3 => .array .int
  | 4 => .array .int
  | 5 => .boolean
  | 6 => .int
  | 7 => .array .long
  | 8 => .array .int
  | 9 => .array .int
  | 10 => .array .long
  | 11 => .array .int
  | 12 => .array .int
  | 13 => .array .int
  | 14 => .array .long
  | 15 => .array .long
  | 16 => .int
  | 17 => .array .int
  | 18 => .array .int
  | 19 => .array .int
  | 20 => .array .long
  | 21 => .array .int
  | 22 => .long
  | _ => .long
abbrev wsX560 : List Cond := u_ws RX56 TX56 24
set_option maxRecDepth 100000 in
theorem nmX56 : ∀ a, a < 24 → ∀ b, b < 24 → a ≠ b → (TX56 a).2.1 ≠ (TX56 b).2.1 := by decide +kernel
set_option maxRecDepth 100000 in
theorem tyX56_ok : ∀ k, k < 24 → parseFieldDescriptor (TX56 k).2.2.1 = some (tyX56 k) := by decide +kernel
abbrev cX56_init : ByteArray := prog_62_method_1_code
def yX56_init : MethodName := ⟨RX56, "<init>", "(J)V"⟩
def dkwX56_init_6 : List UInt8 := [31, 181, 0, 62, 177]
abbrev dktX56_init_6 : List UInt8 := dkwX56_init_6 ++ []
def dkwX56_init_5 : List UInt8 := [16, 12, 188, 10, 181, 0, 53, 42, 16, 8, 188, 11, 181, 0, 56, 42, 16, 100, 188, 10, 181, 0, 59, 42]
abbrev dktX56_init_5 : List UInt8 := dkwX56_init_5 ++ dktX56_init_6
def dkwX56_init_4 : List UInt8 := [16, 120, 188, 11, 181, 0, 44, 42, 16, 12, 188, 10, 181, 0, 47, 42, 16, 12, 188, 10, 181, 0, 50, 42]
abbrev dktX56_init_4 : List UInt8 := dkwX56_init_4 ++ dktX56_init_5
def dkwX56_init_3 : List UInt8 := [16, 6, 188, 10, 181, 0, 35, 42, 16, 6, 188, 10, 181, 0, 38, 42, 16, 120, 188, 11, 181, 0, 41, 42]
abbrev dktX56_init_3 : List UInt8 := dkwX56_init_3 ++ dktX56_init_4
def dkwX56_init_2 : List UInt8 := [188, 10, 181, 0, 26, 42, 17, 0, 180, 188, 11, 181, 0, 29, 42, 16, 6, 188, 10, 181, 0, 32, 42]
abbrev dktX56_init_2 : List UInt8 := dkwX56_init_2 ++ dktX56_init_3
def dkwX56_init_1 : List UInt8 := [181, 0, 16, 42, 16, 6, 188, 11, 181, 0, 19, 42, 16, 6, 188, 10, 181, 0, 23, 42, 17, 0, 180]
abbrev dktX56_init_1 : List UInt8 := dkwX56_init_1 ++ dktX56_init_2
def dkwX56_init_0 : List UInt8 := [42, 183, 0, 1, 42, 16, 20, 188, 10, 181, 0, 7, 42, 16, 20, 188, 10, 181, 0, 13, 42, 7, 188, 10]
abbrev dktX56_init_0 : List UInt8 := dkwX56_init_0 ++ dktX56_init_1
theorem dksX56_init_0 : cX56_init.data.toList.drop 0 = dktX56_init_0 := by decide +kernel
theorem dksX56_init_1 : cX56_init.data.toList.drop 24 = dktX56_init_1 := dk_seg dksX56_init_0 24 rfl rfl
theorem dksX56_init_2 : cX56_init.data.toList.drop 47 = dktX56_init_2 := dk_seg dksX56_init_1 23 rfl rfl
theorem dksX56_init_3 : cX56_init.data.toList.drop 70 = dktX56_init_3 := dk_seg dksX56_init_2 23 rfl rfl
theorem dksX56_init_4 : cX56_init.data.toList.drop 94 = dktX56_init_4 := dk_seg dksX56_init_3 24 rfl rfl
theorem dksX56_init_5 : cX56_init.data.toList.drop 118 = dktX56_init_5 := dk_seg dksX56_init_4 24 rfl rfl
theorem dksX56_init_6 : cX56_init.data.toList.drop 142 = dktX56_init_6 := dk_seg dksX56_init_5 24 rfl rfl
theorem dX56_init_0 : decode cX56_init 0 = .ok (.aload_n 0, 1) := dk_42 (dk_at dksX56_init_0 0 rfl rfl)
theorem dX56_init_1 : decode cX56_init 1 = .ok (.invokespecial 1, 3) := dk_183 0 1 (dk_at dksX56_init_0 1 rfl rfl)
theorem dX56_init_4 : decode cX56_init 4 = .ok (.aload_n 0, 1) := dk_42 (dk_at dksX56_init_0 4 rfl rfl)
theorem dX56_init_5 : decode cX56_init 5 = .ok (.bipush 20, 2) := dk_16 20 (dk_at dksX56_init_0 5 rfl rfl)
theorem dX56_init_7 : decode cX56_init 7 = .ok (.newarray .int, 2) := dk_188_10 (dk_at dksX56_init_0 7 rfl rfl)
theorem dX56_init_9 : decode cX56_init 9 = .ok (.putfield 7, 3) := dk_181 0 7 (dk_at dksX56_init_0 9 rfl rfl)
theorem dX56_init_12 : decode cX56_init 12 = .ok (.aload_n 0, 1) := dk_42 (dk_at dksX56_init_0 12 rfl rfl)
theorem dX56_init_13 : decode cX56_init 13 = .ok (.bipush 20, 2) := dk_16 20 (dk_at dksX56_init_0 13 rfl rfl)
theorem dX56_init_15 : decode cX56_init 15 = .ok (.newarray .int, 2) := dk_188_10 (dk_at dksX56_init_0 15 rfl rfl)
theorem dX56_init_17 : decode cX56_init 17 = .ok (.putfield 13, 3) := dk_181 0 13 (dk_at dksX56_init_0 17 rfl rfl)
theorem dX56_init_20 : decode cX56_init 20 = .ok (.aload_n 0, 1) := dk_42 (dk_at dksX56_init_0 20 rfl rfl)
theorem dX56_init_21 : decode cX56_init 21 = .ok (.iconst 4, 1) := dk_7 (dk_at dksX56_init_0 21 rfl rfl)
theorem dX56_init_22 : decode cX56_init 22 = .ok (.newarray .int, 2) := dk_188_10 (dk_at dksX56_init_0 22 rfl rfl)
theorem dX56_init_24 : decode cX56_init 24 = .ok (.putfield 16, 3) := dk_181 0 16 (dk_at dksX56_init_1 0 rfl rfl)
theorem dX56_init_27 : decode cX56_init 27 = .ok (.aload_n 0, 1) := dk_42 (dk_at dksX56_init_1 3 rfl rfl)
theorem dX56_init_28 : decode cX56_init 28 = .ok (.bipush 6, 2) := dk_16 6 (dk_at dksX56_init_1 4 rfl rfl)
theorem dX56_init_30 : decode cX56_init 30 = .ok (.newarray .long, 2) := dk_188_11 (dk_at dksX56_init_1 6 rfl rfl)
theorem dX56_init_32 : decode cX56_init 32 = .ok (.putfield 19, 3) := dk_181 0 19 (dk_at dksX56_init_1 8 rfl rfl)
theorem dX56_init_35 : decode cX56_init 35 = .ok (.aload_n 0, 1) := dk_42 (dk_at dksX56_init_1 11 rfl rfl)
theorem dX56_init_36 : decode cX56_init 36 = .ok (.bipush 6, 2) := dk_16 6 (dk_at dksX56_init_1 12 rfl rfl)
theorem dX56_init_38 : decode cX56_init 38 = .ok (.newarray .int, 2) := dk_188_10 (dk_at dksX56_init_1 14 rfl rfl)
theorem dX56_init_40 : decode cX56_init 40 = .ok (.putfield 23, 3) := dk_181 0 23 (dk_at dksX56_init_1 16 rfl rfl)
theorem dX56_init_43 : decode cX56_init 43 = .ok (.aload_n 0, 1) := dk_42 (dk_at dksX56_init_1 19 rfl rfl)
theorem dX56_init_44 : decode cX56_init 44 = .ok (.sipush 180, 3) := dk_17 0 180 (dk_at dksX56_init_1 20 rfl rfl)
theorem dX56_init_47 : decode cX56_init 47 = .ok (.newarray .int, 2) := dk_188_10 (dk_at dksX56_init_2 0 rfl rfl)
theorem dX56_init_49 : decode cX56_init 49 = .ok (.putfield 26, 3) := dk_181 0 26 (dk_at dksX56_init_2 2 rfl rfl)
theorem dX56_init_52 : decode cX56_init 52 = .ok (.aload_n 0, 1) := dk_42 (dk_at dksX56_init_2 5 rfl rfl)
theorem dX56_init_53 : decode cX56_init 53 = .ok (.sipush 180, 3) := dk_17 0 180 (dk_at dksX56_init_2 6 rfl rfl)
theorem dX56_init_56 : decode cX56_init 56 = .ok (.newarray .long, 2) := dk_188_11 (dk_at dksX56_init_2 9 rfl rfl)
theorem dX56_init_58 : decode cX56_init 58 = .ok (.putfield 29, 3) := dk_181 0 29 (dk_at dksX56_init_2 11 rfl rfl)
theorem dX56_init_61 : decode cX56_init 61 = .ok (.aload_n 0, 1) := dk_42 (dk_at dksX56_init_2 14 rfl rfl)
theorem dX56_init_62 : decode cX56_init 62 = .ok (.bipush 6, 2) := dk_16 6 (dk_at dksX56_init_2 15 rfl rfl)
theorem dX56_init_64 : decode cX56_init 64 = .ok (.newarray .int, 2) := dk_188_10 (dk_at dksX56_init_2 17 rfl rfl)
theorem dX56_init_66 : decode cX56_init 66 = .ok (.putfield 32, 3) := dk_181 0 32 (dk_at dksX56_init_2 19 rfl rfl)
theorem dX56_init_69 : decode cX56_init 69 = .ok (.aload_n 0, 1) := dk_42 (dk_at dksX56_init_2 22 rfl rfl)
theorem dX56_init_70 : decode cX56_init 70 = .ok (.bipush 6, 2) := dk_16 6 (dk_at dksX56_init_3 0 rfl rfl)
theorem dX56_init_72 : decode cX56_init 72 = .ok (.newarray .int, 2) := dk_188_10 (dk_at dksX56_init_3 2 rfl rfl)
theorem dX56_init_74 : decode cX56_init 74 = .ok (.putfield 35, 3) := dk_181 0 35 (dk_at dksX56_init_3 4 rfl rfl)
theorem dX56_init_77 : decode cX56_init 77 = .ok (.aload_n 0, 1) := dk_42 (dk_at dksX56_init_3 7 rfl rfl)
theorem dX56_init_78 : decode cX56_init 78 = .ok (.bipush 6, 2) := dk_16 6 (dk_at dksX56_init_3 8 rfl rfl)
theorem dX56_init_80 : decode cX56_init 80 = .ok (.newarray .int, 2) := dk_188_10 (dk_at dksX56_init_3 10 rfl rfl)
theorem dX56_init_82 : decode cX56_init 82 = .ok (.putfield 38, 3) := dk_181 0 38 (dk_at dksX56_init_3 12 rfl rfl)
theorem dX56_init_85 : decode cX56_init 85 = .ok (.aload_n 0, 1) := dk_42 (dk_at dksX56_init_3 15 rfl rfl)
theorem dX56_init_86 : decode cX56_init 86 = .ok (.bipush 120, 2) := dk_16 120 (dk_at dksX56_init_3 16 rfl rfl)
theorem dX56_init_88 : decode cX56_init 88 = .ok (.newarray .long, 2) := dk_188_11 (dk_at dksX56_init_3 18 rfl rfl)
theorem dX56_init_90 : decode cX56_init 90 = .ok (.putfield 41, 3) := dk_181 0 41 (dk_at dksX56_init_3 20 rfl rfl)
theorem dX56_init_93 : decode cX56_init 93 = .ok (.aload_n 0, 1) := dk_42 (dk_at dksX56_init_3 23 rfl rfl)
theorem dX56_init_94 : decode cX56_init 94 = .ok (.bipush 120, 2) := dk_16 120 (dk_at dksX56_init_4 0 rfl rfl)
theorem dX56_init_96 : decode cX56_init 96 = .ok (.newarray .long, 2) := dk_188_11 (dk_at dksX56_init_4 2 rfl rfl)
theorem dX56_init_98 : decode cX56_init 98 = .ok (.putfield 44, 3) := dk_181 0 44 (dk_at dksX56_init_4 4 rfl rfl)
theorem dX56_init_101 : decode cX56_init 101 = .ok (.aload_n 0, 1) := dk_42 (dk_at dksX56_init_4 7 rfl rfl)
theorem dX56_init_102 : decode cX56_init 102 = .ok (.bipush 12, 2) := dk_16 12 (dk_at dksX56_init_4 8 rfl rfl)
theorem dX56_init_104 : decode cX56_init 104 = .ok (.newarray .int, 2) := dk_188_10 (dk_at dksX56_init_4 10 rfl rfl)
theorem dX56_init_106 : decode cX56_init 106 = .ok (.putfield 47, 3) := dk_181 0 47 (dk_at dksX56_init_4 12 rfl rfl)
theorem dX56_init_109 : decode cX56_init 109 = .ok (.aload_n 0, 1) := dk_42 (dk_at dksX56_init_4 15 rfl rfl)
theorem dX56_init_110 : decode cX56_init 110 = .ok (.bipush 12, 2) := dk_16 12 (dk_at dksX56_init_4 16 rfl rfl)
theorem dX56_init_112 : decode cX56_init 112 = .ok (.newarray .int, 2) := dk_188_10 (dk_at dksX56_init_4 18 rfl rfl)
theorem dX56_init_114 : decode cX56_init 114 = .ok (.putfield 50, 3) := dk_181 0 50 (dk_at dksX56_init_4 20 rfl rfl)
theorem dX56_init_117 : decode cX56_init 117 = .ok (.aload_n 0, 1) := dk_42 (dk_at dksX56_init_4 23 rfl rfl)
theorem dX56_init_118 : decode cX56_init 118 = .ok (.bipush 12, 2) := dk_16 12 (dk_at dksX56_init_5 0 rfl rfl)
theorem dX56_init_120 : decode cX56_init 120 = .ok (.newarray .int, 2) := dk_188_10 (dk_at dksX56_init_5 2 rfl rfl)
theorem dX56_init_122 : decode cX56_init 122 = .ok (.putfield 53, 3) := dk_181 0 53 (dk_at dksX56_init_5 4 rfl rfl)
theorem dX56_init_125 : decode cX56_init 125 = .ok (.aload_n 0, 1) := dk_42 (dk_at dksX56_init_5 7 rfl rfl)
theorem dX56_init_126 : decode cX56_init 126 = .ok (.bipush 8, 2) := dk_16 8 (dk_at dksX56_init_5 8 rfl rfl)
theorem dX56_init_128 : decode cX56_init 128 = .ok (.newarray .long, 2) := dk_188_11 (dk_at dksX56_init_5 10 rfl rfl)
theorem dX56_init_130 : decode cX56_init 130 = .ok (.putfield 56, 3) := dk_181 0 56 (dk_at dksX56_init_5 12 rfl rfl)
theorem dX56_init_133 : decode cX56_init 133 = .ok (.aload_n 0, 1) := dk_42 (dk_at dksX56_init_5 15 rfl rfl)
theorem dX56_init_134 : decode cX56_init 134 = .ok (.bipush 100, 2) := dk_16 100 (dk_at dksX56_init_5 16 rfl rfl)
theorem dX56_init_136 : decode cX56_init 136 = .ok (.newarray .int, 2) := dk_188_10 (dk_at dksX56_init_5 18 rfl rfl)
theorem dX56_init_138 : decode cX56_init 138 = .ok (.putfield 59, 3) := dk_181 0 59 (dk_at dksX56_init_5 20 rfl rfl)
theorem dX56_init_141 : decode cX56_init 141 = .ok (.aload_n 0, 1) := dk_42 (dk_at dksX56_init_5 23 rfl rfl)
theorem dX56_init_142 : decode cX56_init 142 = .ok (.lload_n 1, 1) := dk_31 (dk_at dksX56_init_6 0 rfl rfl)
theorem dX56_init_143 : decode cX56_init 143 = .ok (.putfield 62, 3) := dk_181 0 62 (dk_at dksX56_init_6 1 rfl rfl)
theorem dX56_init_146 : decode cX56_init 146 = .ok (.return_, 1) := dk_177 (dk_at dksX56_init_6 4 rfl rfl)
abbrev cX56_lot : ByteArray := prog_62_method_15_code
def yX56_lot : MethodName := ⟨RX56, "lot", "(J)I"⟩
def dkwX56_lot_2 : List UInt8 := [180, 0, 116, 4, 100, 172]
abbrev dktX56_lot_2 : List UInt8 := dkwX56_lot_2 ++ []
def dkwX56_lot_1 : List UInt8 := [172, 42, 180, 0, 19, 42, 180, 0, 116, 31, 80, 42, 89, 180, 0, 116, 4, 96, 181, 0, 116, 42]
abbrev dktX56_lot_1 : List UInt8 := dkwX56_lot_1 ++ dktX56_lot_2
def dkwX56_lot_0 : List UInt8 := [42, 180, 0, 116, 16, 6, 159, 0, 17, 31, 10, 148, 155, 0, 11, 31, 20, 0, 119, 148, 158, 0, 5, 2]
abbrev dktX56_lot_0 : List UInt8 := dkwX56_lot_0 ++ dktX56_lot_1
theorem dksX56_lot_0 : cX56_lot.data.toList.drop 0 = dktX56_lot_0 := by decide +kernel
theorem dksX56_lot_1 : cX56_lot.data.toList.drop 24 = dktX56_lot_1 := dk_seg dksX56_lot_0 24 rfl rfl
theorem dksX56_lot_2 : cX56_lot.data.toList.drop 46 = dktX56_lot_2 := dk_seg dksX56_lot_1 22 rfl rfl
theorem dX56_lot_0 : decode cX56_lot 0 = .ok (.aload_n 0, 1) := dk_42 (dk_at dksX56_lot_0 0 rfl rfl)
theorem dX56_lot_1 : decode cX56_lot 1 = .ok (.getfield 116, 3) := dk_180 0 116 (dk_at dksX56_lot_0 1 rfl rfl)
theorem dX56_lot_4 : decode cX56_lot 4 = .ok (.bipush 6, 2) := dk_16 6 (dk_at dksX56_lot_0 4 rfl rfl)
theorem dX56_lot_6 : decode cX56_lot 6 = .ok (.if_icmp .eq 17, 3) := dk_159 0 17 (dk_at dksX56_lot_0 6 rfl rfl)
theorem dX56_lot_9 : decode cX56_lot 9 = .ok (.lload_n 1, 1) := dk_31 (dk_at dksX56_lot_0 9 rfl rfl)
theorem dX56_lot_10 : decode cX56_lot 10 = .ok (.lconst 1, 1) := dk_10 (dk_at dksX56_lot_0 10 rfl rfl)
theorem dX56_lot_11 : decode cX56_lot 11 = .ok (.lcmp, 1) := dk_148 (dk_at dksX56_lot_0 11 rfl rfl)
theorem dX56_lot_12 : decode cX56_lot 12 = .ok (.ifCond .lt 11, 3) := dk_155 0 11 (dk_at dksX56_lot_0 12 rfl rfl)
theorem dX56_lot_15 : decode cX56_lot 15 = .ok (.lload_n 1, 1) := dk_31 (dk_at dksX56_lot_0 15 rfl rfl)
theorem dX56_lot_16 : decode cX56_lot 16 = .ok (.ldc2_w 119, 3) := dk_20 0 119 (dk_at dksX56_lot_0 16 rfl rfl)
theorem dX56_lot_19 : decode cX56_lot 19 = .ok (.lcmp, 1) := dk_148 (dk_at dksX56_lot_0 19 rfl rfl)
theorem dX56_lot_20 : decode cX56_lot 20 = .ok (.ifCond .le 5, 3) := dk_158 0 5 (dk_at dksX56_lot_0 20 rfl rfl)
theorem dX56_lot_23 : decode cX56_lot 23 = .ok (.iconst (-1), 1) := dk_2 (dk_at dksX56_lot_0 23 rfl rfl)
theorem dX56_lot_24 : decode cX56_lot 24 = .ok (.ireturn, 1) := dk_172 (dk_at dksX56_lot_1 0 rfl rfl)
theorem dX56_lot_25 : decode cX56_lot 25 = .ok (.aload_n 0, 1) := dk_42 (dk_at dksX56_lot_1 1 rfl rfl)
theorem dX56_lot_26 : decode cX56_lot 26 = .ok (.getfield 19, 3) := dk_180 0 19 (dk_at dksX56_lot_1 2 rfl rfl)
theorem dX56_lot_29 : decode cX56_lot 29 = .ok (.aload_n 0, 1) := dk_42 (dk_at dksX56_lot_1 5 rfl rfl)
theorem dX56_lot_30 : decode cX56_lot 30 = .ok (.getfield 116, 3) := dk_180 0 116 (dk_at dksX56_lot_1 6 rfl rfl)
theorem dX56_lot_33 : decode cX56_lot 33 = .ok (.lload_n 1, 1) := dk_31 (dk_at dksX56_lot_1 9 rfl rfl)
theorem dX56_lot_34 : decode cX56_lot 34 = .ok (.lastore, 1) := dk_80 (dk_at dksX56_lot_1 10 rfl rfl)
theorem dX56_lot_35 : decode cX56_lot 35 = .ok (.aload_n 0, 1) := dk_42 (dk_at dksX56_lot_1 11 rfl rfl)
theorem dX56_lot_36 : decode cX56_lot 36 = .ok (.dup, 1) := dk_89 (dk_at dksX56_lot_1 12 rfl rfl)
theorem dX56_lot_37 : decode cX56_lot 37 = .ok (.getfield 116, 3) := dk_180 0 116 (dk_at dksX56_lot_1 13 rfl rfl)
theorem dX56_lot_40 : decode cX56_lot 40 = .ok (.iconst 1, 1) := dk_4 (dk_at dksX56_lot_1 16 rfl rfl)
theorem dX56_lot_41 : decode cX56_lot 41 = .ok (.iadd, 1) := dk_96 (dk_at dksX56_lot_1 17 rfl rfl)
theorem dX56_lot_42 : decode cX56_lot 42 = .ok (.putfield 116, 3) := dk_181 0 116 (dk_at dksX56_lot_1 18 rfl rfl)
theorem dX56_lot_45 : decode cX56_lot 45 = .ok (.aload_n 0, 1) := dk_42 (dk_at dksX56_lot_1 21 rfl rfl)
theorem dX56_lot_46 : decode cX56_lot 46 = .ok (.getfield 116, 3) := dk_180 0 116 (dk_at dksX56_lot_2 0 rfl rfl)
theorem dX56_lot_49 : decode cX56_lot 49 = .ok (.iconst 1, 1) := dk_4 (dk_at dksX56_lot_2 3 rfl rfl)
theorem dX56_lot_50 : decode cX56_lot 50 = .ok (.isub, 1) := dk_100 (dk_at dksX56_lot_2 4 rfl rfl)
theorem dX56_lot_51 : decode cX56_lot 51 = .ok (.ireturn, 1) := dk_172 (dk_at dksX56_lot_2 5 rfl rfl)
abbrev cX56_piece : ByteArray := prog_62_method_16_code
def yX56_piece : MethodName := ⟨RX56, "piece", "(IIJ)Z"⟩
def dkwX56_piece_3 : List UInt8 := [180, 0, 23, 27, 46, 96, 33, 80, 42, 180, 0, 23, 27, 92, 46, 4, 96, 79, 4, 172]
abbrev dktX56_piece_3 : List UInt8 := dkwX56_piece_3 ++ []
def dkwX56_piece_2 : List UInt8 := [16, 30, 27, 104, 42, 180, 0, 23, 27, 46, 96, 28, 79, 42, 180, 0, 29, 16, 30, 27, 104, 42]
abbrev dktX56_piece_2 : List UInt8 := dkwX56_piece_2 ++ dktX56_piece_3
def dkwX56_piece_1 : List UInt8 := [20, 0, 125, 148, 157, 0, 14, 42, 180, 0, 23, 27, 46, 16, 30, 160, 0, 5, 3, 172, 42, 180, 0, 26]
abbrev dktX56_piece_1 : List UInt8 := dkwX56_piece_1 ++ dktX56_piece_2
def dkwX56_piece_0 : List UInt8 := [42, 27, 182, 0, 121, 153, 0, 37, 28, 155, 0, 33, 28, 8, 162, 0, 28, 33, 10, 148, 155, 0, 22, 33]
abbrev dktX56_piece_0 : List UInt8 := dkwX56_piece_0 ++ dktX56_piece_1
theorem dksX56_piece_0 : cX56_piece.data.toList.drop 0 = dktX56_piece_0 := by decide +kernel
theorem dksX56_piece_1 : cX56_piece.data.toList.drop 24 = dktX56_piece_1 := dk_seg dksX56_piece_0 24 rfl rfl
theorem dksX56_piece_2 : cX56_piece.data.toList.drop 48 = dktX56_piece_2 := dk_seg dksX56_piece_1 24 rfl rfl
theorem dksX56_piece_3 : cX56_piece.data.toList.drop 70 = dktX56_piece_3 := dk_seg dksX56_piece_2 22 rfl rfl
theorem dX56_piece_0 : decode cX56_piece 0 = .ok (.aload_n 0, 1) := dk_42 (dk_at dksX56_piece_0 0 rfl rfl)
theorem dX56_piece_1 : decode cX56_piece 1 = .ok (.iload_n 1, 1) := dk_27 (dk_at dksX56_piece_0 1 rfl rfl)
theorem dX56_piece_2 : decode cX56_piece 2 = .ok (.invokevirtual 121, 3) := dk_182 0 121 (dk_at dksX56_piece_0 2 rfl rfl)
theorem dX56_piece_5 : decode cX56_piece 5 = .ok (.ifCond .eq 37, 3) := dk_153 0 37 (dk_at dksX56_piece_0 5 rfl rfl)
theorem dX56_piece_8 : decode cX56_piece 8 = .ok (.iload_n 2, 1) := dk_28 (dk_at dksX56_piece_0 8 rfl rfl)
theorem dX56_piece_9 : decode cX56_piece 9 = .ok (.ifCond .lt 33, 3) := dk_155 0 33 (dk_at dksX56_piece_0 9 rfl rfl)
theorem dX56_piece_12 : decode cX56_piece 12 = .ok (.iload_n 2, 1) := dk_28 (dk_at dksX56_piece_0 12 rfl rfl)
theorem dX56_piece_13 : decode cX56_piece 13 = .ok (.iconst 5, 1) := dk_8 (dk_at dksX56_piece_0 13 rfl rfl)
theorem dX56_piece_14 : decode cX56_piece 14 = .ok (.if_icmp .ge 28, 3) := dk_162 0 28 (dk_at dksX56_piece_0 14 rfl rfl)
theorem dX56_piece_17 : decode cX56_piece 17 = .ok (.lload_n 3, 1) := dk_33 (dk_at dksX56_piece_0 17 rfl rfl)
theorem dX56_piece_18 : decode cX56_piece 18 = .ok (.lconst 1, 1) := dk_10 (dk_at dksX56_piece_0 18 rfl rfl)
theorem dX56_piece_19 : decode cX56_piece 19 = .ok (.lcmp, 1) := dk_148 (dk_at dksX56_piece_0 19 rfl rfl)
theorem dX56_piece_20 : decode cX56_piece 20 = .ok (.ifCond .lt 22, 3) := dk_155 0 22 (dk_at dksX56_piece_0 20 rfl rfl)
theorem dX56_piece_23 : decode cX56_piece 23 = .ok (.lload_n 3, 1) := dk_33 (dk_at dksX56_piece_0 23 rfl rfl)
theorem dX56_piece_24 : decode cX56_piece 24 = .ok (.ldc2_w 125, 3) := dk_20 0 125 (dk_at dksX56_piece_1 0 rfl rfl)
theorem dX56_piece_27 : decode cX56_piece 27 = .ok (.lcmp, 1) := dk_148 (dk_at dksX56_piece_1 3 rfl rfl)
theorem dX56_piece_28 : decode cX56_piece 28 = .ok (.ifCond .gt 14, 3) := dk_157 0 14 (dk_at dksX56_piece_1 4 rfl rfl)
theorem dX56_piece_31 : decode cX56_piece 31 = .ok (.aload_n 0, 1) := dk_42 (dk_at dksX56_piece_1 7 rfl rfl)
theorem dX56_piece_32 : decode cX56_piece 32 = .ok (.getfield 23, 3) := dk_180 0 23 (dk_at dksX56_piece_1 8 rfl rfl)
theorem dX56_piece_35 : decode cX56_piece 35 = .ok (.iload_n 1, 1) := dk_27 (dk_at dksX56_piece_1 11 rfl rfl)
theorem dX56_piece_36 : decode cX56_piece 36 = .ok (.iaload, 1) := dk_46 (dk_at dksX56_piece_1 12 rfl rfl)
theorem dX56_piece_37 : decode cX56_piece 37 = .ok (.bipush 30, 2) := dk_16 30 (dk_at dksX56_piece_1 13 rfl rfl)
theorem dX56_piece_39 : decode cX56_piece 39 = .ok (.if_icmp .ne 5, 3) := dk_160 0 5 (dk_at dksX56_piece_1 15 rfl rfl)
theorem dX56_piece_42 : decode cX56_piece 42 = .ok (.iconst 0, 1) := dk_3 (dk_at dksX56_piece_1 18 rfl rfl)
theorem dX56_piece_43 : decode cX56_piece 43 = .ok (.ireturn, 1) := dk_172 (dk_at dksX56_piece_1 19 rfl rfl)
theorem dX56_piece_44 : decode cX56_piece 44 = .ok (.aload_n 0, 1) := dk_42 (dk_at dksX56_piece_1 20 rfl rfl)
theorem dX56_piece_45 : decode cX56_piece 45 = .ok (.getfield 26, 3) := dk_180 0 26 (dk_at dksX56_piece_1 21 rfl rfl)
theorem dX56_piece_48 : decode cX56_piece 48 = .ok (.bipush 30, 2) := dk_16 30 (dk_at dksX56_piece_2 0 rfl rfl)
theorem dX56_piece_50 : decode cX56_piece 50 = .ok (.iload_n 1, 1) := dk_27 (dk_at dksX56_piece_2 2 rfl rfl)
theorem dX56_piece_51 : decode cX56_piece 51 = .ok (.imul, 1) := dk_104 (dk_at dksX56_piece_2 3 rfl rfl)
theorem dX56_piece_52 : decode cX56_piece 52 = .ok (.aload_n 0, 1) := dk_42 (dk_at dksX56_piece_2 4 rfl rfl)
theorem dX56_piece_53 : decode cX56_piece 53 = .ok (.getfield 23, 3) := dk_180 0 23 (dk_at dksX56_piece_2 5 rfl rfl)
theorem dX56_piece_56 : decode cX56_piece 56 = .ok (.iload_n 1, 1) := dk_27 (dk_at dksX56_piece_2 8 rfl rfl)
theorem dX56_piece_57 : decode cX56_piece 57 = .ok (.iaload, 1) := dk_46 (dk_at dksX56_piece_2 9 rfl rfl)
theorem dX56_piece_58 : decode cX56_piece 58 = .ok (.iadd, 1) := dk_96 (dk_at dksX56_piece_2 10 rfl rfl)
theorem dX56_piece_59 : decode cX56_piece 59 = .ok (.iload_n 2, 1) := dk_28 (dk_at dksX56_piece_2 11 rfl rfl)
theorem dX56_piece_60 : decode cX56_piece 60 = .ok (.iastore, 1) := dk_79 (dk_at dksX56_piece_2 12 rfl rfl)
theorem dX56_piece_61 : decode cX56_piece 61 = .ok (.aload_n 0, 1) := dk_42 (dk_at dksX56_piece_2 13 rfl rfl)
theorem dX56_piece_62 : decode cX56_piece 62 = .ok (.getfield 29, 3) := dk_180 0 29 (dk_at dksX56_piece_2 14 rfl rfl)
theorem dX56_piece_65 : decode cX56_piece 65 = .ok (.bipush 30, 2) := dk_16 30 (dk_at dksX56_piece_2 17 rfl rfl)
theorem dX56_piece_67 : decode cX56_piece 67 = .ok (.iload_n 1, 1) := dk_27 (dk_at dksX56_piece_2 19 rfl rfl)
theorem dX56_piece_68 : decode cX56_piece 68 = .ok (.imul, 1) := dk_104 (dk_at dksX56_piece_2 20 rfl rfl)
theorem dX56_piece_69 : decode cX56_piece 69 = .ok (.aload_n 0, 1) := dk_42 (dk_at dksX56_piece_2 21 rfl rfl)
theorem dX56_piece_70 : decode cX56_piece 70 = .ok (.getfield 23, 3) := dk_180 0 23 (dk_at dksX56_piece_3 0 rfl rfl)
theorem dX56_piece_73 : decode cX56_piece 73 = .ok (.iload_n 1, 1) := dk_27 (dk_at dksX56_piece_3 3 rfl rfl)
theorem dX56_piece_74 : decode cX56_piece 74 = .ok (.iaload, 1) := dk_46 (dk_at dksX56_piece_3 4 rfl rfl)
theorem dX56_piece_75 : decode cX56_piece 75 = .ok (.iadd, 1) := dk_96 (dk_at dksX56_piece_3 5 rfl rfl)
theorem dX56_piece_76 : decode cX56_piece 76 = .ok (.lload_n 3, 1) := dk_33 (dk_at dksX56_piece_3 6 rfl rfl)
theorem dX56_piece_77 : decode cX56_piece 77 = .ok (.lastore, 1) := dk_80 (dk_at dksX56_piece_3 7 rfl rfl)
theorem dX56_piece_78 : decode cX56_piece 78 = .ok (.aload_n 0, 1) := dk_42 (dk_at dksX56_piece_3 8 rfl rfl)
theorem dX56_piece_79 : decode cX56_piece 79 = .ok (.getfield 23, 3) := dk_180 0 23 (dk_at dksX56_piece_3 9 rfl rfl)
theorem dX56_piece_82 : decode cX56_piece 82 = .ok (.iload_n 1, 1) := dk_27 (dk_at dksX56_piece_3 12 rfl rfl)
theorem dX56_piece_83 : decode cX56_piece 83 = .ok (.dup2, 1) := dk_92 (dk_at dksX56_piece_3 13 rfl rfl)
theorem dX56_piece_84 : decode cX56_piece 84 = .ok (.iaload, 1) := dk_46 (dk_at dksX56_piece_3 14 rfl rfl)
theorem dX56_piece_85 : decode cX56_piece 85 = .ok (.iconst 1, 1) := dk_4 (dk_at dksX56_piece_3 15 rfl rfl)
theorem dX56_piece_86 : decode cX56_piece 86 = .ok (.iadd, 1) := dk_96 (dk_at dksX56_piece_3 16 rfl rfl)
theorem dX56_piece_87 : decode cX56_piece 87 = .ok (.iastore, 1) := dk_79 (dk_at dksX56_piece_3 17 rfl rfl)
theorem dX56_piece_88 : decode cX56_piece 88 = .ok (.iconst 1, 1) := dk_4 (dk_at dksX56_piece_3 18 rfl rfl)
theorem dX56_piece_89 : decode cX56_piece 89 = .ok (.ireturn, 1) := dk_172 (dk_at dksX56_piece_3 19 rfl rfl)
abbrev cX56_isLot : ByteArray := prog_62_method_14_code
def yX56_isLot : MethodName := ⟨RX56, "isLot", "(I)Z"⟩
def dkwX56_isLot_0 : List UInt8 := [27, 155, 0, 15, 27, 42, 180, 0, 116, 162, 0, 7, 4, 167, 0, 4, 3, 172]
abbrev dktX56_isLot_0 : List UInt8 := dkwX56_isLot_0 ++ []
theorem dksX56_isLot_0 : cX56_isLot.data.toList.drop 0 = dktX56_isLot_0 := by decide +kernel
theorem dX56_isLot_0 : decode cX56_isLot 0 = .ok (.iload_n 1, 1) := dk_27 (dk_at dksX56_isLot_0 0 rfl rfl)
theorem dX56_isLot_1 : decode cX56_isLot 1 = .ok (.ifCond .lt 15, 3) := dk_155 0 15 (dk_at dksX56_isLot_0 1 rfl rfl)
theorem dX56_isLot_4 : decode cX56_isLot 4 = .ok (.iload_n 1, 1) := dk_27 (dk_at dksX56_isLot_0 4 rfl rfl)
theorem dX56_isLot_5 : decode cX56_isLot 5 = .ok (.aload_n 0, 1) := dk_42 (dk_at dksX56_isLot_0 5 rfl rfl)
theorem dX56_isLot_6 : decode cX56_isLot 6 = .ok (.getfield 116, 3) := dk_180 0 116 (dk_at dksX56_isLot_0 6 rfl rfl)
theorem dX56_isLot_9 : decode cX56_isLot 9 = .ok (.if_icmp .ge 7, 3) := dk_162 0 7 (dk_at dksX56_isLot_0 9 rfl rfl)
theorem dX56_isLot_12 : decode cX56_isLot 12 = .ok (.iconst 1, 1) := dk_4 (dk_at dksX56_isLot_0 12 rfl rfl)
theorem dX56_isLot_13 : decode cX56_isLot 13 = .ok (.goto 4, 3) := dk_167 0 4 (dk_at dksX56_isLot_0 13 rfl rfl)
theorem dX56_isLot_16 : decode cX56_isLot 16 = .ok (.iconst 0, 1) := dk_3 (dk_at dksX56_isLot_0 16 rfl rfl)
theorem dX56_isLot_17 : decode cX56_isLot 17 = .ok (.ireturn, 1) := dk_172 (dk_at dksX56_isLot_0 17 rfl rfl)
abbrev cX56_price : ByteArray := prog_62_method_26_code
def yX56_price : MethodName := ⟨RX56, "price", "(I)J"⟩
def dkwX56_price_2 : List UInt8 := [28, 46, 133, 42, 180, 0, 19, 27, 47, 105, 20, 0, 138, 109, 173]
abbrev dktX56_price_2 : List UInt8 := dkwX56_price_2 ++ []
def dkwX56_price_1 : List UInt8 := [182, 0, 145, 42, 27, 182, 0, 149, 182, 0, 152, 61, 28, 156, 0, 7, 9, 167, 0, 21, 42, 180, 0, 53]
abbrev dktX56_price_1 : List UInt8 := dkwX56_price_1 ++ dktX56_price_2
def dkwX56_price_0 : List UInt8 := [42, 27, 182, 0, 121, 153, 0, 12, 42, 180, 0, 23, 27, 46, 154, 0, 7, 20, 0, 70, 173, 42, 42, 27]
abbrev dktX56_price_0 : List UInt8 := dkwX56_price_0 ++ dktX56_price_1
theorem dksX56_price_0 : cX56_price.data.toList.drop 0 = dktX56_price_0 := by decide +kernel
theorem dksX56_price_1 : cX56_price.data.toList.drop 24 = dktX56_price_1 := dk_seg dksX56_price_0 24 rfl rfl
theorem dksX56_price_2 : cX56_price.data.toList.drop 48 = dktX56_price_2 := dk_seg dksX56_price_1 24 rfl rfl
theorem dX56_price_0 : decode cX56_price 0 = .ok (.aload_n 0, 1) := dk_42 (dk_at dksX56_price_0 0 rfl rfl)
theorem dX56_price_1 : decode cX56_price 1 = .ok (.iload_n 1, 1) := dk_27 (dk_at dksX56_price_0 1 rfl rfl)
theorem dX56_price_2 : decode cX56_price 2 = .ok (.invokevirtual 121, 3) := dk_182 0 121 (dk_at dksX56_price_0 2 rfl rfl)
theorem dX56_price_5 : decode cX56_price 5 = .ok (.ifCond .eq 12, 3) := dk_153 0 12 (dk_at dksX56_price_0 5 rfl rfl)
theorem dX56_price_8 : decode cX56_price 8 = .ok (.aload_n 0, 1) := dk_42 (dk_at dksX56_price_0 8 rfl rfl)
theorem dX56_price_9 : decode cX56_price 9 = .ok (.getfield 23, 3) := dk_180 0 23 (dk_at dksX56_price_0 9 rfl rfl)
theorem dX56_price_12 : decode cX56_price 12 = .ok (.iload_n 1, 1) := dk_27 (dk_at dksX56_price_0 12 rfl rfl)
theorem dX56_price_13 : decode cX56_price 13 = .ok (.iaload, 1) := dk_46 (dk_at dksX56_price_0 13 rfl rfl)
theorem dX56_price_14 : decode cX56_price 14 = .ok (.ifCond .ne 7, 3) := dk_154 0 7 (dk_at dksX56_price_0 14 rfl rfl)
theorem dX56_price_17 : decode cX56_price 17 = .ok (.ldc2_w 70, 3) := dk_20 0 70 (dk_at dksX56_price_0 17 rfl rfl)
theorem dX56_price_20 : decode cX56_price 20 = .ok (.lreturn, 1) := dk_173 (dk_at dksX56_price_0 20 rfl rfl)
theorem dX56_price_21 : decode cX56_price 21 = .ok (.aload_n 0, 1) := dk_42 (dk_at dksX56_price_0 21 rfl rfl)
theorem dX56_price_22 : decode cX56_price 22 = .ok (.aload_n 0, 1) := dk_42 (dk_at dksX56_price_0 22 rfl rfl)
theorem dX56_price_23 : decode cX56_price 23 = .ok (.iload_n 1, 1) := dk_27 (dk_at dksX56_price_0 23 rfl rfl)
theorem dX56_price_24 : decode cX56_price 24 = .ok (.invokevirtual 145, 3) := dk_182 0 145 (dk_at dksX56_price_1 0 rfl rfl)
theorem dX56_price_27 : decode cX56_price 27 = .ok (.aload_n 0, 1) := dk_42 (dk_at dksX56_price_1 3 rfl rfl)
theorem dX56_price_28 : decode cX56_price 28 = .ok (.iload_n 1, 1) := dk_27 (dk_at dksX56_price_1 4 rfl rfl)
theorem dX56_price_29 : decode cX56_price 29 = .ok (.invokevirtual 149, 3) := dk_182 0 149 (dk_at dksX56_price_1 5 rfl rfl)
theorem dX56_price_32 : decode cX56_price 32 = .ok (.invokevirtual 152, 3) := dk_182 0 152 (dk_at dksX56_price_1 8 rfl rfl)
theorem dX56_price_35 : decode cX56_price 35 = .ok (.istore_n 2, 1) := dk_61 (dk_at dksX56_price_1 11 rfl rfl)
theorem dX56_price_36 : decode cX56_price 36 = .ok (.iload_n 2, 1) := dk_28 (dk_at dksX56_price_1 12 rfl rfl)
theorem dX56_price_37 : decode cX56_price 37 = .ok (.ifCond .ge 7, 3) := dk_156 0 7 (dk_at dksX56_price_1 13 rfl rfl)
theorem dX56_price_40 : decode cX56_price 40 = .ok (.lconst 0, 1) := dk_9 (dk_at dksX56_price_1 16 rfl rfl)
theorem dX56_price_41 : decode cX56_price 41 = .ok (.goto 21, 3) := dk_167 0 21 (dk_at dksX56_price_1 17 rfl rfl)
theorem dX56_price_44 : decode cX56_price 44 = .ok (.aload_n 0, 1) := dk_42 (dk_at dksX56_price_1 20 rfl rfl)
theorem dX56_price_45 : decode cX56_price 45 = .ok (.getfield 53, 3) := dk_180 0 53 (dk_at dksX56_price_1 21 rfl rfl)
theorem dX56_price_48 : decode cX56_price 48 = .ok (.iload_n 2, 1) := dk_28 (dk_at dksX56_price_2 0 rfl rfl)
theorem dX56_price_49 : decode cX56_price 49 = .ok (.iaload, 1) := dk_46 (dk_at dksX56_price_2 1 rfl rfl)
theorem dX56_price_50 : decode cX56_price 50 = .ok (.i2l, 1) := dk_133 (dk_at dksX56_price_2 2 rfl rfl)
theorem dX56_price_51 : decode cX56_price 51 = .ok (.aload_n 0, 1) := dk_42 (dk_at dksX56_price_2 3 rfl rfl)
theorem dX56_price_52 : decode cX56_price 52 = .ok (.getfield 19, 3) := dk_180 0 19 (dk_at dksX56_price_2 4 rfl rfl)
theorem dX56_price_55 : decode cX56_price 55 = .ok (.iload_n 1, 1) := dk_27 (dk_at dksX56_price_2 7 rfl rfl)
theorem dX56_price_56 : decode cX56_price 56 = .ok (.laload, 1) := dk_47 (dk_at dksX56_price_2 8 rfl rfl)
theorem dX56_price_57 : decode cX56_price 57 = .ok (.lmul, 1) := dk_105 (dk_at dksX56_price_2 9 rfl rfl)
theorem dX56_price_58 : decode cX56_price 58 = .ok (.ldc2_w 138, 3) := dk_20 0 138 (dk_at dksX56_price_2 10 rfl rfl)
theorem dX56_price_61 : decode cX56_price 61 = .ok (.ldiv, 1) := dk_109 (dk_at dksX56_price_2 13 rfl rfl)
theorem dX56_price_62 : decode cX56_price 62 = .ok (.lreturn, 1) := dk_173 (dk_at dksX56_price_2 14 rfl rfl)
abbrev cX56_pureAbove : ByteArray := prog_62_method_24_code
def yX56_pureAbove : MethodName := ⟨RX56, "pureAbove", "(I)J"⟩
def dkwX56_pureAbove_1 : List UInt8 := [182, 0, 127, 173]
abbrev dktX56_pureAbove_1 : List UInt8 := dkwX56_pureAbove_1 ++ []
def dkwX56_pureAbove_0 : List UInt8 := [42, 27, 182, 0, 142, 153, 0, 13, 42, 180, 0, 32, 27, 46, 133, 167, 0, 10, 42, 27, 3, 2]
abbrev dktX56_pureAbove_0 : List UInt8 := dkwX56_pureAbove_0 ++ dktX56_pureAbove_1
theorem dksX56_pureAbove_0 : cX56_pureAbove.data.toList.drop 0 = dktX56_pureAbove_0 := by decide +kernel
theorem dksX56_pureAbove_1 : cX56_pureAbove.data.toList.drop 22 = dktX56_pureAbove_1 := dk_seg dksX56_pureAbove_0 22 rfl rfl
theorem dX56_pureAbove_0 : decode cX56_pureAbove 0 = .ok (.aload_n 0, 1) := dk_42 (dk_at dksX56_pureAbove_0 0 rfl rfl)
theorem dX56_pureAbove_1 : decode cX56_pureAbove 1 = .ok (.iload_n 1, 1) := dk_27 (dk_at dksX56_pureAbove_0 1 rfl rfl)
theorem dX56_pureAbove_2 : decode cX56_pureAbove 2 = .ok (.invokevirtual 142, 3) := dk_182 0 142 (dk_at dksX56_pureAbove_0 2 rfl rfl)
theorem dX56_pureAbove_5 : decode cX56_pureAbove 5 = .ok (.ifCond .eq 13, 3) := dk_153 0 13 (dk_at dksX56_pureAbove_0 5 rfl rfl)
theorem dX56_pureAbove_8 : decode cX56_pureAbove 8 = .ok (.aload_n 0, 1) := dk_42 (dk_at dksX56_pureAbove_0 8 rfl rfl)
theorem dX56_pureAbove_9 : decode cX56_pureAbove 9 = .ok (.getfield 32, 3) := dk_180 0 32 (dk_at dksX56_pureAbove_0 9 rfl rfl)
theorem dX56_pureAbove_12 : decode cX56_pureAbove 12 = .ok (.iload_n 1, 1) := dk_27 (dk_at dksX56_pureAbove_0 12 rfl rfl)
theorem dX56_pureAbove_13 : decode cX56_pureAbove 13 = .ok (.iaload, 1) := dk_46 (dk_at dksX56_pureAbove_0 13 rfl rfl)
theorem dX56_pureAbove_14 : decode cX56_pureAbove 14 = .ok (.i2l, 1) := dk_133 (dk_at dksX56_pureAbove_0 14 rfl rfl)
theorem dX56_pureAbove_15 : decode cX56_pureAbove 15 = .ok (.goto 10, 3) := dk_167 0 10 (dk_at dksX56_pureAbove_0 15 rfl rfl)
theorem dX56_pureAbove_18 : decode cX56_pureAbove 18 = .ok (.aload_n 0, 1) := dk_42 (dk_at dksX56_pureAbove_0 18 rfl rfl)
theorem dX56_pureAbove_19 : decode cX56_pureAbove 19 = .ok (.iload_n 1, 1) := dk_27 (dk_at dksX56_pureAbove_0 19 rfl rfl)
theorem dX56_pureAbove_20 : decode cX56_pureAbove 20 = .ok (.iconst 0, 1) := dk_3 (dk_at dksX56_pureAbove_0 20 rfl rfl)
theorem dX56_pureAbove_21 : decode cX56_pureAbove 21 = .ok (.iconst (-1), 1) := dk_2 (dk_at dksX56_pureAbove_0 21 rfl rfl)
theorem dX56_pureAbove_22 : decode cX56_pureAbove 22 = .ok (.invokevirtual 127, 3) := dk_182 0 127 (dk_at dksX56_pureAbove_1 0 rfl rfl)
theorem dX56_pureAbove_25 : decode cX56_pureAbove 25 = .ok (.lreturn, 1) := dk_173 (dk_at dksX56_pureAbove_1 3 rfl rfl)
abbrev cX56_isJudged : ByteArray := prog_62_method_23_code
def yX56_isJudged : MethodName := ⟨RX56, "isJudged", "(I)Z"⟩
def dkwX56_isJudged_0 : List UInt8 := [42, 180, 0, 35, 27, 46, 158, 0, 7, 4, 167, 0, 4, 3, 172]
abbrev dktX56_isJudged_0 : List UInt8 := dkwX56_isJudged_0 ++ []
theorem dksX56_isJudged_0 : cX56_isJudged.data.toList.drop 0 = dktX56_isJudged_0 := by decide +kernel
theorem dX56_isJudged_0 : decode cX56_isJudged 0 = .ok (.aload_n 0, 1) := dk_42 (dk_at dksX56_isJudged_0 0 rfl rfl)
theorem dX56_isJudged_1 : decode cX56_isJudged 1 = .ok (.getfield 35, 3) := dk_180 0 35 (dk_at dksX56_isJudged_0 1 rfl rfl)
theorem dX56_isJudged_4 : decode cX56_isJudged 4 = .ok (.iload_n 1, 1) := dk_27 (dk_at dksX56_isJudged_0 4 rfl rfl)
theorem dX56_isJudged_5 : decode cX56_isJudged 5 = .ok (.iaload, 1) := dk_46 (dk_at dksX56_isJudged_0 5 rfl rfl)
theorem dX56_isJudged_6 : decode cX56_isJudged 6 = .ok (.ifCond .le 7, 3) := dk_158 0 7 (dk_at dksX56_isJudged_0 6 rfl rfl)
theorem dX56_isJudged_9 : decode cX56_isJudged 9 = .ok (.iconst 1, 1) := dk_4 (dk_at dksX56_isJudged_0 9 rfl rfl)
theorem dX56_isJudged_10 : decode cX56_isJudged 10 = .ok (.goto 4, 3) := dk_167 0 4 (dk_at dksX56_isJudged_0 10 rfl rfl)
theorem dX56_isJudged_13 : decode cX56_isJudged 13 = .ok (.iconst 0, 1) := dk_3 (dk_at dksX56_isJudged_0 13 rfl rfl)
theorem dX56_isJudged_14 : decode cX56_isJudged 14 = .ok (.ireturn, 1) := dk_172 (dk_at dksX56_isJudged_0 14 rfl rfl)
abbrev cX56_sumOf : ByteArray := prog_62_method_17_code
def yX56_sumOf : MethodName := ⟨RX56, "sumOf", "(III)J"⟩
def dkwX56_sumOf_3 : List UInt8 := [22, 4, 173]
abbrev dktX56_sumOf_3 : List UInt8 := dkwX56_sumOf_3 ++ []
def dkwX56_sumOf_2 : List UInt8 := [160, 0, 13, 42, 180, 0, 29, 21, 7, 47, 167, 0, 4, 9, 97, 55, 4, 132, 6, 1, 167, 255, 195]
abbrev dktX56_sumOf_2 : List UInt8 := dkwX56_sumOf_2 ++ dktX56_sumOf_3
def dkwX56_sumOf_1 : List UInt8 := [54, 7, 22, 4, 21, 6, 29, 159, 0, 29, 28, 2, 159, 0, 14, 42, 180, 0, 26, 21, 7, 46, 28]
abbrev dktX56_sumOf_1 : List UInt8 := dkwX56_sumOf_1 ++ dktX56_sumOf_2
def dkwX56_sumOf_0 : List UInt8 := [9, 55, 4, 3, 54, 6, 21, 6, 42, 180, 0, 23, 27, 46, 162, 0, 56, 16, 30, 27, 104, 21, 6, 96]
abbrev dktX56_sumOf_0 : List UInt8 := dkwX56_sumOf_0 ++ dktX56_sumOf_1
theorem dksX56_sumOf_0 : cX56_sumOf.data.toList.drop 0 = dktX56_sumOf_0 := by decide +kernel
theorem dksX56_sumOf_1 : cX56_sumOf.data.toList.drop 24 = dktX56_sumOf_1 := dk_seg dksX56_sumOf_0 24 rfl rfl
theorem dksX56_sumOf_2 : cX56_sumOf.data.toList.drop 47 = dktX56_sumOf_2 := dk_seg dksX56_sumOf_1 23 rfl rfl
theorem dksX56_sumOf_3 : cX56_sumOf.data.toList.drop 70 = dktX56_sumOf_3 := dk_seg dksX56_sumOf_2 23 rfl rfl
theorem dX56_sumOf_0 : decode cX56_sumOf 0 = .ok (.lconst 0, 1) := dk_9 (dk_at dksX56_sumOf_0 0 rfl rfl)
theorem dX56_sumOf_1 : decode cX56_sumOf 1 = .ok (.lstore 4, 2) := dk_55 4 (dk_at dksX56_sumOf_0 1 rfl rfl)
theorem dX56_sumOf_3 : decode cX56_sumOf 3 = .ok (.iconst 0, 1) := dk_3 (dk_at dksX56_sumOf_0 3 rfl rfl)
theorem dX56_sumOf_4 : decode cX56_sumOf 4 = .ok (.istore 6, 2) := dk_54 6 (dk_at dksX56_sumOf_0 4 rfl rfl)
theorem dX56_sumOf_6 : decode cX56_sumOf 6 = .ok (.iload 6, 2) := dk_21 6 (dk_at dksX56_sumOf_0 6 rfl rfl)
theorem dX56_sumOf_8 : decode cX56_sumOf 8 = .ok (.aload_n 0, 1) := dk_42 (dk_at dksX56_sumOf_0 8 rfl rfl)
theorem dX56_sumOf_9 : decode cX56_sumOf 9 = .ok (.getfield 23, 3) := dk_180 0 23 (dk_at dksX56_sumOf_0 9 rfl rfl)
theorem dX56_sumOf_12 : decode cX56_sumOf 12 = .ok (.iload_n 1, 1) := dk_27 (dk_at dksX56_sumOf_0 12 rfl rfl)
theorem dX56_sumOf_13 : decode cX56_sumOf 13 = .ok (.iaload, 1) := dk_46 (dk_at dksX56_sumOf_0 13 rfl rfl)
theorem dX56_sumOf_14 : decode cX56_sumOf 14 = .ok (.if_icmp .ge 56, 3) := dk_162 0 56 (dk_at dksX56_sumOf_0 14 rfl rfl)
theorem dX56_sumOf_17 : decode cX56_sumOf 17 = .ok (.bipush 30, 2) := dk_16 30 (dk_at dksX56_sumOf_0 17 rfl rfl)
theorem dX56_sumOf_19 : decode cX56_sumOf 19 = .ok (.iload_n 1, 1) := dk_27 (dk_at dksX56_sumOf_0 19 rfl rfl)
theorem dX56_sumOf_20 : decode cX56_sumOf 20 = .ok (.imul, 1) := dk_104 (dk_at dksX56_sumOf_0 20 rfl rfl)
theorem dX56_sumOf_21 : decode cX56_sumOf 21 = .ok (.iload 6, 2) := dk_21 6 (dk_at dksX56_sumOf_0 21 rfl rfl)
theorem dX56_sumOf_23 : decode cX56_sumOf 23 = .ok (.iadd, 1) := dk_96 (dk_at dksX56_sumOf_0 23 rfl rfl)
theorem dX56_sumOf_24 : decode cX56_sumOf 24 = .ok (.istore 7, 2) := dk_54 7 (dk_at dksX56_sumOf_1 0 rfl rfl)
theorem dX56_sumOf_26 : decode cX56_sumOf 26 = .ok (.lload 4, 2) := dk_22 4 (dk_at dksX56_sumOf_1 2 rfl rfl)
theorem dX56_sumOf_28 : decode cX56_sumOf 28 = .ok (.iload 6, 2) := dk_21 6 (dk_at dksX56_sumOf_1 4 rfl rfl)
theorem dX56_sumOf_30 : decode cX56_sumOf 30 = .ok (.iload_n 3, 1) := dk_29 (dk_at dksX56_sumOf_1 6 rfl rfl)
theorem dX56_sumOf_31 : decode cX56_sumOf 31 = .ok (.if_icmp .eq 29, 3) := dk_159 0 29 (dk_at dksX56_sumOf_1 7 rfl rfl)
theorem dX56_sumOf_34 : decode cX56_sumOf 34 = .ok (.iload_n 2, 1) := dk_28 (dk_at dksX56_sumOf_1 10 rfl rfl)
theorem dX56_sumOf_35 : decode cX56_sumOf 35 = .ok (.iconst (-1), 1) := dk_2 (dk_at dksX56_sumOf_1 11 rfl rfl)
theorem dX56_sumOf_36 : decode cX56_sumOf 36 = .ok (.if_icmp .eq 14, 3) := dk_159 0 14 (dk_at dksX56_sumOf_1 12 rfl rfl)
theorem dX56_sumOf_39 : decode cX56_sumOf 39 = .ok (.aload_n 0, 1) := dk_42 (dk_at dksX56_sumOf_1 15 rfl rfl)
theorem dX56_sumOf_40 : decode cX56_sumOf 40 = .ok (.getfield 26, 3) := dk_180 0 26 (dk_at dksX56_sumOf_1 16 rfl rfl)
theorem dX56_sumOf_43 : decode cX56_sumOf 43 = .ok (.iload 7, 2) := dk_21 7 (dk_at dksX56_sumOf_1 19 rfl rfl)
theorem dX56_sumOf_45 : decode cX56_sumOf 45 = .ok (.iaload, 1) := dk_46 (dk_at dksX56_sumOf_1 21 rfl rfl)
theorem dX56_sumOf_46 : decode cX56_sumOf 46 = .ok (.iload_n 2, 1) := dk_28 (dk_at dksX56_sumOf_1 22 rfl rfl)
theorem dX56_sumOf_47 : decode cX56_sumOf 47 = .ok (.if_icmp .ne 13, 3) := dk_160 0 13 (dk_at dksX56_sumOf_2 0 rfl rfl)
theorem dX56_sumOf_50 : decode cX56_sumOf 50 = .ok (.aload_n 0, 1) := dk_42 (dk_at dksX56_sumOf_2 3 rfl rfl)
theorem dX56_sumOf_51 : decode cX56_sumOf 51 = .ok (.getfield 29, 3) := dk_180 0 29 (dk_at dksX56_sumOf_2 4 rfl rfl)
theorem dX56_sumOf_54 : decode cX56_sumOf 54 = .ok (.iload 7, 2) := dk_21 7 (dk_at dksX56_sumOf_2 7 rfl rfl)
theorem dX56_sumOf_56 : decode cX56_sumOf 56 = .ok (.laload, 1) := dk_47 (dk_at dksX56_sumOf_2 9 rfl rfl)
theorem dX56_sumOf_57 : decode cX56_sumOf 57 = .ok (.goto 4, 3) := dk_167 0 4 (dk_at dksX56_sumOf_2 10 rfl rfl)
theorem dX56_sumOf_60 : decode cX56_sumOf 60 = .ok (.lconst 0, 1) := dk_9 (dk_at dksX56_sumOf_2 13 rfl rfl)
theorem dX56_sumOf_61 : decode cX56_sumOf 61 = .ok (.ladd, 1) := dk_97 (dk_at dksX56_sumOf_2 14 rfl rfl)
theorem dX56_sumOf_62 : decode cX56_sumOf 62 = .ok (.lstore 4, 2) := dk_55 4 (dk_at dksX56_sumOf_2 15 rfl rfl)
theorem dX56_sumOf_64 : decode cX56_sumOf 64 = .ok (.iinc 6 1, 3) := dk_132 6 1 (dk_at dksX56_sumOf_2 17 rfl rfl)
theorem dX56_sumOf_67 : decode cX56_sumOf 67 = .ok (.goto (-61), 3) := dk_167 255 195 (dk_at dksX56_sumOf_2 20 rfl rfl)
theorem dX56_sumOf_70 : decode cX56_sumOf 70 = .ok (.lload 4, 2) := dk_22 4 (dk_at dksX56_sumOf_3 0 rfl rfl)
theorem dX56_sumOf_72 : decode cX56_sumOf 72 = .ok (.lreturn, 1) := dk_173 (dk_at dksX56_sumOf_3 2 rfl rfl)
abbrev cX56_pureBelow : ByteArray := prog_62_method_25_code
def yX56_pureBelow : MethodName := ⟨RX56, "pureBelow", "(I)J"⟩
def dkwX56_pureBelow_1 : List UInt8 := [182, 0, 127, 173]
abbrev dktX56_pureBelow_1 : List UInt8 := dkwX56_pureBelow_1 ++ []
def dkwX56_pureBelow_0 : List UInt8 := [42, 27, 182, 0, 142, 153, 0, 13, 42, 180, 0, 35, 27, 46, 133, 167, 0, 10, 42, 27, 2, 2]
abbrev dktX56_pureBelow_0 : List UInt8 := dkwX56_pureBelow_0 ++ dktX56_pureBelow_1
theorem dksX56_pureBelow_0 : cX56_pureBelow.data.toList.drop 0 = dktX56_pureBelow_0 := by decide +kernel
theorem dksX56_pureBelow_1 : cX56_pureBelow.data.toList.drop 22 = dktX56_pureBelow_1 := dk_seg dksX56_pureBelow_0 22 rfl rfl
theorem dX56_pureBelow_0 : decode cX56_pureBelow 0 = .ok (.aload_n 0, 1) := dk_42 (dk_at dksX56_pureBelow_0 0 rfl rfl)
theorem dX56_pureBelow_1 : decode cX56_pureBelow 1 = .ok (.iload_n 1, 1) := dk_27 (dk_at dksX56_pureBelow_0 1 rfl rfl)
theorem dX56_pureBelow_2 : decode cX56_pureBelow 2 = .ok (.invokevirtual 142, 3) := dk_182 0 142 (dk_at dksX56_pureBelow_0 2 rfl rfl)
theorem dX56_pureBelow_5 : decode cX56_pureBelow 5 = .ok (.ifCond .eq 13, 3) := dk_153 0 13 (dk_at dksX56_pureBelow_0 5 rfl rfl)
theorem dX56_pureBelow_8 : decode cX56_pureBelow 8 = .ok (.aload_n 0, 1) := dk_42 (dk_at dksX56_pureBelow_0 8 rfl rfl)
theorem dX56_pureBelow_9 : decode cX56_pureBelow 9 = .ok (.getfield 35, 3) := dk_180 0 35 (dk_at dksX56_pureBelow_0 9 rfl rfl)
theorem dX56_pureBelow_12 : decode cX56_pureBelow 12 = .ok (.iload_n 1, 1) := dk_27 (dk_at dksX56_pureBelow_0 12 rfl rfl)
theorem dX56_pureBelow_13 : decode cX56_pureBelow 13 = .ok (.iaload, 1) := dk_46 (dk_at dksX56_pureBelow_0 13 rfl rfl)
theorem dX56_pureBelow_14 : decode cX56_pureBelow 14 = .ok (.i2l, 1) := dk_133 (dk_at dksX56_pureBelow_0 14 rfl rfl)
theorem dX56_pureBelow_15 : decode cX56_pureBelow 15 = .ok (.goto 10, 3) := dk_167 0 10 (dk_at dksX56_pureBelow_0 15 rfl rfl)
theorem dX56_pureBelow_18 : decode cX56_pureBelow 18 = .ok (.aload_n 0, 1) := dk_42 (dk_at dksX56_pureBelow_0 18 rfl rfl)
theorem dX56_pureBelow_19 : decode cX56_pureBelow 19 = .ok (.iload_n 1, 1) := dk_27 (dk_at dksX56_pureBelow_0 19 rfl rfl)
theorem dX56_pureBelow_20 : decode cX56_pureBelow 20 = .ok (.iconst (-1), 1) := dk_2 (dk_at dksX56_pureBelow_0 20 rfl rfl)
theorem dX56_pureBelow_21 : decode cX56_pureBelow 21 = .ok (.iconst (-1), 1) := dk_2 (dk_at dksX56_pureBelow_0 21 rfl rfl)
theorem dX56_pureBelow_22 : decode cX56_pureBelow 22 = .ok (.invokevirtual 127, 3) := dk_182 0 127 (dk_at dksX56_pureBelow_1 0 rfl rfl)
theorem dX56_pureBelow_25 : decode cX56_pureBelow 25 = .ok (.lreturn, 1) := dk_173 (dk_at dksX56_pureBelow_1 3 rfl rfl)
abbrev cX56_stepOf : ByteArray := prog_62_method_22_code
def yX56_stepOf : MethodName := ⟨RX56, "stepOf", "(JJ)I"⟩
def dkwX56_stepOf_2 : List UInt8 := [132, 6, 1, 167, 255, 211, 21, 5, 172]
abbrev dktX56_stepOf_2 : List UInt8 := dkwX56_stepOf_2 ++ []
def dkwX56_stepOf_1 : List UInt8 := [105, 31, 42, 180, 0, 50, 21, 6, 46, 133, 105, 148, 157, 0, 8, 21, 6, 167, 0, 5, 21, 5, 54, 5]
abbrev dktX56_stepOf_1 : List UInt8 := dkwX56_stepOf_1 ++ dktX56_stepOf_2
def dkwX56_stepOf_0 : List UInt8 := [2, 54, 5, 3, 54, 6, 21, 6, 42, 180, 0, 135, 162, 0, 42, 42, 180, 0, 47, 21, 6, 46, 133, 33]
abbrev dktX56_stepOf_0 : List UInt8 := dkwX56_stepOf_0 ++ dktX56_stepOf_1
theorem dksX56_stepOf_0 : cX56_stepOf.data.toList.drop 0 = dktX56_stepOf_0 := by decide +kernel
theorem dksX56_stepOf_1 : cX56_stepOf.data.toList.drop 24 = dktX56_stepOf_1 := dk_seg dksX56_stepOf_0 24 rfl rfl
theorem dksX56_stepOf_2 : cX56_stepOf.data.toList.drop 48 = dktX56_stepOf_2 := dk_seg dksX56_stepOf_1 24 rfl rfl
theorem dX56_stepOf_0 : decode cX56_stepOf 0 = .ok (.iconst (-1), 1) := dk_2 (dk_at dksX56_stepOf_0 0 rfl rfl)
theorem dX56_stepOf_1 : decode cX56_stepOf 1 = .ok (.istore 5, 2) := dk_54 5 (dk_at dksX56_stepOf_0 1 rfl rfl)
theorem dX56_stepOf_3 : decode cX56_stepOf 3 = .ok (.iconst 0, 1) := dk_3 (dk_at dksX56_stepOf_0 3 rfl rfl)
theorem dX56_stepOf_4 : decode cX56_stepOf 4 = .ok (.istore 6, 2) := dk_54 6 (dk_at dksX56_stepOf_0 4 rfl rfl)
theorem dX56_stepOf_6 : decode cX56_stepOf 6 = .ok (.iload 6, 2) := dk_21 6 (dk_at dksX56_stepOf_0 6 rfl rfl)
theorem dX56_stepOf_8 : decode cX56_stepOf 8 = .ok (.aload_n 0, 1) := dk_42 (dk_at dksX56_stepOf_0 8 rfl rfl)
theorem dX56_stepOf_9 : decode cX56_stepOf 9 = .ok (.getfield 135, 3) := dk_180 0 135 (dk_at dksX56_stepOf_0 9 rfl rfl)
theorem dX56_stepOf_12 : decode cX56_stepOf 12 = .ok (.if_icmp .ge 42, 3) := dk_162 0 42 (dk_at dksX56_stepOf_0 12 rfl rfl)
theorem dX56_stepOf_15 : decode cX56_stepOf 15 = .ok (.aload_n 0, 1) := dk_42 (dk_at dksX56_stepOf_0 15 rfl rfl)
theorem dX56_stepOf_16 : decode cX56_stepOf 16 = .ok (.getfield 47, 3) := dk_180 0 47 (dk_at dksX56_stepOf_0 16 rfl rfl)
theorem dX56_stepOf_19 : decode cX56_stepOf 19 = .ok (.iload 6, 2) := dk_21 6 (dk_at dksX56_stepOf_0 19 rfl rfl)
theorem dX56_stepOf_21 : decode cX56_stepOf 21 = .ok (.iaload, 1) := dk_46 (dk_at dksX56_stepOf_0 21 rfl rfl)
theorem dX56_stepOf_22 : decode cX56_stepOf 22 = .ok (.i2l, 1) := dk_133 (dk_at dksX56_stepOf_0 22 rfl rfl)
theorem dX56_stepOf_23 : decode cX56_stepOf 23 = .ok (.lload_n 3, 1) := dk_33 (dk_at dksX56_stepOf_0 23 rfl rfl)
theorem dX56_stepOf_24 : decode cX56_stepOf 24 = .ok (.lmul, 1) := dk_105 (dk_at dksX56_stepOf_1 0 rfl rfl)
theorem dX56_stepOf_25 : decode cX56_stepOf 25 = .ok (.lload_n 1, 1) := dk_31 (dk_at dksX56_stepOf_1 1 rfl rfl)
theorem dX56_stepOf_26 : decode cX56_stepOf 26 = .ok (.aload_n 0, 1) := dk_42 (dk_at dksX56_stepOf_1 2 rfl rfl)
theorem dX56_stepOf_27 : decode cX56_stepOf 27 = .ok (.getfield 50, 3) := dk_180 0 50 (dk_at dksX56_stepOf_1 3 rfl rfl)
theorem dX56_stepOf_30 : decode cX56_stepOf 30 = .ok (.iload 6, 2) := dk_21 6 (dk_at dksX56_stepOf_1 6 rfl rfl)
theorem dX56_stepOf_32 : decode cX56_stepOf 32 = .ok (.iaload, 1) := dk_46 (dk_at dksX56_stepOf_1 8 rfl rfl)
theorem dX56_stepOf_33 : decode cX56_stepOf 33 = .ok (.i2l, 1) := dk_133 (dk_at dksX56_stepOf_1 9 rfl rfl)
theorem dX56_stepOf_34 : decode cX56_stepOf 34 = .ok (.lmul, 1) := dk_105 (dk_at dksX56_stepOf_1 10 rfl rfl)
theorem dX56_stepOf_35 : decode cX56_stepOf 35 = .ok (.lcmp, 1) := dk_148 (dk_at dksX56_stepOf_1 11 rfl rfl)
theorem dX56_stepOf_36 : decode cX56_stepOf 36 = .ok (.ifCond .gt 8, 3) := dk_157 0 8 (dk_at dksX56_stepOf_1 12 rfl rfl)
theorem dX56_stepOf_39 : decode cX56_stepOf 39 = .ok (.iload 6, 2) := dk_21 6 (dk_at dksX56_stepOf_1 15 rfl rfl)
theorem dX56_stepOf_41 : decode cX56_stepOf 41 = .ok (.goto 5, 3) := dk_167 0 5 (dk_at dksX56_stepOf_1 17 rfl rfl)
theorem dX56_stepOf_44 : decode cX56_stepOf 44 = .ok (.iload 5, 2) := dk_21 5 (dk_at dksX56_stepOf_1 20 rfl rfl)
theorem dX56_stepOf_46 : decode cX56_stepOf 46 = .ok (.istore 5, 2) := dk_54 5 (dk_at dksX56_stepOf_1 22 rfl rfl)
theorem dX56_stepOf_48 : decode cX56_stepOf 48 = .ok (.iinc 6 1, 3) := dk_132 6 1 (dk_at dksX56_stepOf_2 0 rfl rfl)
theorem dX56_stepOf_51 : decode cX56_stepOf 51 = .ok (.goto (-45), 3) := dk_167 255 211 (dk_at dksX56_stepOf_2 3 rfl rfl)
theorem dX56_stepOf_54 : decode cX56_stepOf 54 = .ok (.iload 5, 2) := dk_21 5 (dk_at dksX56_stepOf_2 6 rfl rfl)
theorem dX56_stepOf_56 : decode cX56_stepOf 56 = .ok (.ireturn, 1) := dk_172 (dk_at dksX56_stepOf_2 8 rfl rfl)
abbrev cX56_share : ByteArray := prog_62_method_18_code
def yX56_share : MethodName := ⟨RX56, "share", "(III)J"⟩
def dkwX56_share_2 : List UInt8 := [184, 0, 90, 173]
abbrev dktX56_share_2 : List UInt8 := dkwX56_share_2 ++ []
def dkwX56_share_1 : List UInt8 := [154, 0, 7, 20, 0, 70, 173, 42, 27, 28, 2, 182, 0, 127, 42, 27, 2, 2, 182, 0, 127, 29]
abbrev dktX56_share_1 : List UInt8 := dkwX56_share_1 ++ dktX56_share_2
def dkwX56_share_0 : List UInt8 := [42, 27, 182, 0, 121, 153, 0, 21, 28, 155, 0, 17, 28, 8, 162, 0, 12, 42, 180, 0, 23, 27, 46]
abbrev dktX56_share_0 : List UInt8 := dkwX56_share_0 ++ dktX56_share_1
theorem dksX56_share_0 : cX56_share.data.toList.drop 0 = dktX56_share_0 := by decide +kernel
theorem dksX56_share_1 : cX56_share.data.toList.drop 23 = dktX56_share_1 := dk_seg dksX56_share_0 23 rfl rfl
theorem dksX56_share_2 : cX56_share.data.toList.drop 45 = dktX56_share_2 := dk_seg dksX56_share_1 22 rfl rfl
theorem dX56_share_0 : decode cX56_share 0 = .ok (.aload_n 0, 1) := dk_42 (dk_at dksX56_share_0 0 rfl rfl)
theorem dX56_share_1 : decode cX56_share 1 = .ok (.iload_n 1, 1) := dk_27 (dk_at dksX56_share_0 1 rfl rfl)
theorem dX56_share_2 : decode cX56_share 2 = .ok (.invokevirtual 121, 3) := dk_182 0 121 (dk_at dksX56_share_0 2 rfl rfl)
theorem dX56_share_5 : decode cX56_share 5 = .ok (.ifCond .eq 21, 3) := dk_153 0 21 (dk_at dksX56_share_0 5 rfl rfl)
theorem dX56_share_8 : decode cX56_share 8 = .ok (.iload_n 2, 1) := dk_28 (dk_at dksX56_share_0 8 rfl rfl)
theorem dX56_share_9 : decode cX56_share 9 = .ok (.ifCond .lt 17, 3) := dk_155 0 17 (dk_at dksX56_share_0 9 rfl rfl)
theorem dX56_share_12 : decode cX56_share 12 = .ok (.iload_n 2, 1) := dk_28 (dk_at dksX56_share_0 12 rfl rfl)
theorem dX56_share_13 : decode cX56_share 13 = .ok (.iconst 5, 1) := dk_8 (dk_at dksX56_share_0 13 rfl rfl)
theorem dX56_share_14 : decode cX56_share 14 = .ok (.if_icmp .ge 12, 3) := dk_162 0 12 (dk_at dksX56_share_0 14 rfl rfl)
theorem dX56_share_17 : decode cX56_share 17 = .ok (.aload_n 0, 1) := dk_42 (dk_at dksX56_share_0 17 rfl rfl)
theorem dX56_share_18 : decode cX56_share 18 = .ok (.getfield 23, 3) := dk_180 0 23 (dk_at dksX56_share_0 18 rfl rfl)
theorem dX56_share_21 : decode cX56_share 21 = .ok (.iload_n 1, 1) := dk_27 (dk_at dksX56_share_0 21 rfl rfl)
theorem dX56_share_22 : decode cX56_share 22 = .ok (.iaload, 1) := dk_46 (dk_at dksX56_share_0 22 rfl rfl)
theorem dX56_share_23 : decode cX56_share 23 = .ok (.ifCond .ne 7, 3) := dk_154 0 7 (dk_at dksX56_share_1 0 rfl rfl)
theorem dX56_share_26 : decode cX56_share 26 = .ok (.ldc2_w 70, 3) := dk_20 0 70 (dk_at dksX56_share_1 3 rfl rfl)
theorem dX56_share_29 : decode cX56_share 29 = .ok (.lreturn, 1) := dk_173 (dk_at dksX56_share_1 6 rfl rfl)
theorem dX56_share_30 : decode cX56_share 30 = .ok (.aload_n 0, 1) := dk_42 (dk_at dksX56_share_1 7 rfl rfl)
theorem dX56_share_31 : decode cX56_share 31 = .ok (.iload_n 1, 1) := dk_27 (dk_at dksX56_share_1 8 rfl rfl)
theorem dX56_share_32 : decode cX56_share 32 = .ok (.iload_n 2, 1) := dk_28 (dk_at dksX56_share_1 9 rfl rfl)
theorem dX56_share_33 : decode cX56_share 33 = .ok (.iconst (-1), 1) := dk_2 (dk_at dksX56_share_1 10 rfl rfl)
theorem dX56_share_34 : decode cX56_share 34 = .ok (.invokevirtual 127, 3) := dk_182 0 127 (dk_at dksX56_share_1 11 rfl rfl)
theorem dX56_share_37 : decode cX56_share 37 = .ok (.aload_n 0, 1) := dk_42 (dk_at dksX56_share_1 14 rfl rfl)
theorem dX56_share_38 : decode cX56_share 38 = .ok (.iload_n 1, 1) := dk_27 (dk_at dksX56_share_1 15 rfl rfl)
theorem dX56_share_39 : decode cX56_share 39 = .ok (.iconst (-1), 1) := dk_2 (dk_at dksX56_share_1 16 rfl rfl)
theorem dX56_share_40 : decode cX56_share 40 = .ok (.iconst (-1), 1) := dk_2 (dk_at dksX56_share_1 17 rfl rfl)
theorem dX56_share_41 : decode cX56_share 41 = .ok (.invokevirtual 127, 3) := dk_182 0 127 (dk_at dksX56_share_1 18 rfl rfl)
theorem dX56_share_44 : decode cX56_share 44 = .ok (.iload_n 3, 1) := dk_29 (dk_at dksX56_share_1 21 rfl rfl)
theorem dX56_share_45 : decode cX56_share 45 = .ok (.invokestatic 90, 3) := dk_184 0 90 (dk_at dksX56_share_2 0 rfl rfl)
theorem dX56_share_48 : decode cX56_share 48 = .ok (.lreturn, 1) := dk_173 (dk_at dksX56_share_2 3 rfl rfl)
abbrev cX56_part : ByteArray := prog_62_method_5_code
def yX56_part : MethodName := ⟨RX56, "part", "(JJI)J"⟩
def dkwX56_part_1 : List UInt8 := [160, 0, 10, 32, 22, 5, 109, 167, 0, 6, 20, 0, 70, 173]
abbrev dktX56_part_1 : List UInt8 := dkwX56_part_1 ++ []
def dkwX56_part_0 : List UInt8 := [30, 32, 184, 0, 66, 55, 5, 21, 4, 154, 0, 10, 30, 22, 5, 109, 167, 0, 19, 21, 4, 4]
abbrev dktX56_part_0 : List UInt8 := dkwX56_part_0 ++ dktX56_part_1
theorem dksX56_part_0 : cX56_part.data.toList.drop 0 = dktX56_part_0 := by decide +kernel
theorem dksX56_part_1 : cX56_part.data.toList.drop 22 = dktX56_part_1 := dk_seg dksX56_part_0 22 rfl rfl
theorem dX56_part_0 : decode cX56_part 0 = .ok (.lload_n 0, 1) := dk_30 (dk_at dksX56_part_0 0 rfl rfl)
theorem dX56_part_1 : decode cX56_part 1 = .ok (.lload_n 2, 1) := dk_32 (dk_at dksX56_part_0 1 rfl rfl)
theorem dX56_part_2 : decode cX56_part 2 = .ok (.invokestatic 66, 3) := dk_184 0 66 (dk_at dksX56_part_0 2 rfl rfl)
theorem dX56_part_5 : decode cX56_part 5 = .ok (.lstore 5, 2) := dk_55 5 (dk_at dksX56_part_0 5 rfl rfl)
theorem dX56_part_7 : decode cX56_part 7 = .ok (.iload 4, 2) := dk_21 4 (dk_at dksX56_part_0 7 rfl rfl)
theorem dX56_part_9 : decode cX56_part 9 = .ok (.ifCond .ne 10, 3) := dk_154 0 10 (dk_at dksX56_part_0 9 rfl rfl)
theorem dX56_part_12 : decode cX56_part 12 = .ok (.lload_n 0, 1) := dk_30 (dk_at dksX56_part_0 12 rfl rfl)
theorem dX56_part_13 : decode cX56_part 13 = .ok (.lload 5, 2) := dk_22 5 (dk_at dksX56_part_0 13 rfl rfl)
theorem dX56_part_15 : decode cX56_part 15 = .ok (.ldiv, 1) := dk_109 (dk_at dksX56_part_0 15 rfl rfl)
theorem dX56_part_16 : decode cX56_part 16 = .ok (.goto 19, 3) := dk_167 0 19 (dk_at dksX56_part_0 16 rfl rfl)
theorem dX56_part_19 : decode cX56_part 19 = .ok (.iload 4, 2) := dk_21 4 (dk_at dksX56_part_0 19 rfl rfl)
theorem dX56_part_21 : decode cX56_part 21 = .ok (.iconst 1, 1) := dk_4 (dk_at dksX56_part_0 21 rfl rfl)
theorem dX56_part_22 : decode cX56_part 22 = .ok (.if_icmp .ne 10, 3) := dk_160 0 10 (dk_at dksX56_part_1 0 rfl rfl)
theorem dX56_part_25 : decode cX56_part 25 = .ok (.lload_n 2, 1) := dk_32 (dk_at dksX56_part_1 3 rfl rfl)
theorem dX56_part_26 : decode cX56_part 26 = .ok (.lload 5, 2) := dk_22 5 (dk_at dksX56_part_1 4 rfl rfl)
theorem dX56_part_28 : decode cX56_part 28 = .ok (.ldiv, 1) := dk_109 (dk_at dksX56_part_1 6 rfl rfl)
theorem dX56_part_29 : decode cX56_part 29 = .ok (.goto 6, 3) := dk_167 0 6 (dk_at dksX56_part_1 7 rfl rfl)
theorem dX56_part_32 : decode cX56_part 32 = .ok (.ldc2_w 70, 3) := dk_20 0 70 (dk_at dksX56_part_1 10 rfl rfl)
theorem dX56_part_35 : decode cX56_part 35 = .ok (.lreturn, 1) := dk_173 (dk_at dksX56_part_1 13 rfl rfl)
abbrev cX56_common : ByteArray := prog_62_method_4_code
def yX56_common : MethodName := ⟨RX56, "common", "(JJ)J"⟩
def dkwX56_common_1 : List UInt8 := [22, 8, 55, 4, 167, 255, 234, 22, 6, 173]
abbrev dktX56_common_1 : List UInt8 := dkwX56_common_1 ++ []
def dkwX56_common_0 : List UInt8 := [30, 55, 4, 32, 55, 6, 22, 4, 9, 148, 153, 0, 21, 22, 6, 22, 4, 113, 55, 8, 22, 4, 55, 6]
abbrev dktX56_common_0 : List UInt8 := dkwX56_common_0 ++ dktX56_common_1
theorem dksX56_common_0 : cX56_common.data.toList.drop 0 = dktX56_common_0 := by decide +kernel
theorem dksX56_common_1 : cX56_common.data.toList.drop 24 = dktX56_common_1 := dk_seg dksX56_common_0 24 rfl rfl
theorem dX56_common_0 : decode cX56_common 0 = .ok (.lload_n 0, 1) := dk_30 (dk_at dksX56_common_0 0 rfl rfl)
theorem dX56_common_1 : decode cX56_common 1 = .ok (.lstore 4, 2) := dk_55 4 (dk_at dksX56_common_0 1 rfl rfl)
theorem dX56_common_3 : decode cX56_common 3 = .ok (.lload_n 2, 1) := dk_32 (dk_at dksX56_common_0 3 rfl rfl)
theorem dX56_common_4 : decode cX56_common 4 = .ok (.lstore 6, 2) := dk_55 6 (dk_at dksX56_common_0 4 rfl rfl)
theorem dX56_common_6 : decode cX56_common 6 = .ok (.lload 4, 2) := dk_22 4 (dk_at dksX56_common_0 6 rfl rfl)
theorem dX56_common_8 : decode cX56_common 8 = .ok (.lconst 0, 1) := dk_9 (dk_at dksX56_common_0 8 rfl rfl)
theorem dX56_common_9 : decode cX56_common 9 = .ok (.lcmp, 1) := dk_148 (dk_at dksX56_common_0 9 rfl rfl)
theorem dX56_common_10 : decode cX56_common 10 = .ok (.ifCond .eq 21, 3) := dk_153 0 21 (dk_at dksX56_common_0 10 rfl rfl)
theorem dX56_common_13 : decode cX56_common 13 = .ok (.lload 6, 2) := dk_22 6 (dk_at dksX56_common_0 13 rfl rfl)
theorem dX56_common_15 : decode cX56_common 15 = .ok (.lload 4, 2) := dk_22 4 (dk_at dksX56_common_0 15 rfl rfl)
theorem dX56_common_17 : decode cX56_common 17 = .ok (.lrem, 1) := dk_113 (dk_at dksX56_common_0 17 rfl rfl)
theorem dX56_common_18 : decode cX56_common 18 = .ok (.lstore 8, 2) := dk_55 8 (dk_at dksX56_common_0 18 rfl rfl)
theorem dX56_common_20 : decode cX56_common 20 = .ok (.lload 4, 2) := dk_22 4 (dk_at dksX56_common_0 20 rfl rfl)
theorem dX56_common_22 : decode cX56_common 22 = .ok (.lstore 6, 2) := dk_55 6 (dk_at dksX56_common_0 22 rfl rfl)
theorem dX56_common_24 : decode cX56_common 24 = .ok (.lload 8, 2) := dk_22 8 (dk_at dksX56_common_1 0 rfl rfl)
theorem dX56_common_26 : decode cX56_common 26 = .ok (.lstore 4, 2) := dk_55 4 (dk_at dksX56_common_1 2 rfl rfl)
theorem dX56_common_28 : decode cX56_common 28 = .ok (.goto (-22), 3) := dk_167 255 234 (dk_at dksX56_common_1 4 rfl rfl)
theorem dX56_common_31 : decode cX56_common 31 = .ok (.lload 6, 2) := dk_22 6 (dk_at dksX56_common_1 7 rfl rfl)
theorem dX56_common_33 : decode cX56_common 33 = .ok (.lreturn, 1) := dk_173 (dk_at dksX56_common_1 9 rfl rfl)
abbrev cX56_plan : ByteArray := prog_62_method_6_code
def yX56_plan : MethodName := ⟨RX56, "plan", "(II)I"⟩
def dkwX56_plan_2 : List UInt8 := [180, 0, 72, 28, 79, 42, 89, 180, 0, 72, 4, 96, 181, 0, 72, 42, 180, 0, 72, 4, 100, 172]
abbrev dktX56_plan_2 : List UInt8 := dkwX56_plan_2 ++ []
def dkwX56_plan_1 : List UInt8 := [28, 27, 164, 0, 5, 2, 172, 42, 180, 0, 7, 42, 180, 0, 72, 27, 79, 42, 180, 0, 13, 42]
abbrev dktX56_plan_1 : List UInt8 := dkwX56_plan_1 ++ dktX56_plan_2
def dkwX56_plan_0 : List UInt8 := [42, 180, 0, 72, 16, 20, 159, 0, 23, 27, 4, 161, 0, 18, 27, 16, 7, 163, 0, 12, 28, 155, 0, 8]
abbrev dktX56_plan_0 : List UInt8 := dkwX56_plan_0 ++ dktX56_plan_1
theorem dksX56_plan_0 : cX56_plan.data.toList.drop 0 = dktX56_plan_0 := by decide +kernel
theorem dksX56_plan_1 : cX56_plan.data.toList.drop 24 = dktX56_plan_1 := dk_seg dksX56_plan_0 24 rfl rfl
theorem dksX56_plan_2 : cX56_plan.data.toList.drop 46 = dktX56_plan_2 := dk_seg dksX56_plan_1 22 rfl rfl
theorem dX56_plan_0 : decode cX56_plan 0 = .ok (.aload_n 0, 1) := dk_42 (dk_at dksX56_plan_0 0 rfl rfl)
theorem dX56_plan_1 : decode cX56_plan 1 = .ok (.getfield 72, 3) := dk_180 0 72 (dk_at dksX56_plan_0 1 rfl rfl)
theorem dX56_plan_4 : decode cX56_plan 4 = .ok (.bipush 20, 2) := dk_16 20 (dk_at dksX56_plan_0 4 rfl rfl)
theorem dX56_plan_6 : decode cX56_plan 6 = .ok (.if_icmp .eq 23, 3) := dk_159 0 23 (dk_at dksX56_plan_0 6 rfl rfl)
theorem dX56_plan_9 : decode cX56_plan 9 = .ok (.iload_n 1, 1) := dk_27 (dk_at dksX56_plan_0 9 rfl rfl)
theorem dX56_plan_10 : decode cX56_plan 10 = .ok (.iconst 1, 1) := dk_4 (dk_at dksX56_plan_0 10 rfl rfl)
theorem dX56_plan_11 : decode cX56_plan 11 = .ok (.if_icmp .lt 18, 3) := dk_161 0 18 (dk_at dksX56_plan_0 11 rfl rfl)
theorem dX56_plan_14 : decode cX56_plan 14 = .ok (.iload_n 1, 1) := dk_27 (dk_at dksX56_plan_0 14 rfl rfl)
theorem dX56_plan_15 : decode cX56_plan 15 = .ok (.bipush 7, 2) := dk_16 7 (dk_at dksX56_plan_0 15 rfl rfl)
theorem dX56_plan_17 : decode cX56_plan 17 = .ok (.if_icmp .gt 12, 3) := dk_163 0 12 (dk_at dksX56_plan_0 17 rfl rfl)
theorem dX56_plan_20 : decode cX56_plan 20 = .ok (.iload_n 2, 1) := dk_28 (dk_at dksX56_plan_0 20 rfl rfl)
theorem dX56_plan_21 : decode cX56_plan 21 = .ok (.ifCond .lt 8, 3) := dk_155 0 8 (dk_at dksX56_plan_0 21 rfl rfl)
theorem dX56_plan_24 : decode cX56_plan 24 = .ok (.iload_n 2, 1) := dk_28 (dk_at dksX56_plan_1 0 rfl rfl)
theorem dX56_plan_25 : decode cX56_plan 25 = .ok (.iload_n 1, 1) := dk_27 (dk_at dksX56_plan_1 1 rfl rfl)
theorem dX56_plan_26 : decode cX56_plan 26 = .ok (.if_icmp .le 5, 3) := dk_164 0 5 (dk_at dksX56_plan_1 2 rfl rfl)
theorem dX56_plan_29 : decode cX56_plan 29 = .ok (.iconst (-1), 1) := dk_2 (dk_at dksX56_plan_1 5 rfl rfl)
theorem dX56_plan_30 : decode cX56_plan 30 = .ok (.ireturn, 1) := dk_172 (dk_at dksX56_plan_1 6 rfl rfl)
theorem dX56_plan_31 : decode cX56_plan 31 = .ok (.aload_n 0, 1) := dk_42 (dk_at dksX56_plan_1 7 rfl rfl)
theorem dX56_plan_32 : decode cX56_plan 32 = .ok (.getfield 7, 3) := dk_180 0 7 (dk_at dksX56_plan_1 8 rfl rfl)
theorem dX56_plan_35 : decode cX56_plan 35 = .ok (.aload_n 0, 1) := dk_42 (dk_at dksX56_plan_1 11 rfl rfl)
theorem dX56_plan_36 : decode cX56_plan 36 = .ok (.getfield 72, 3) := dk_180 0 72 (dk_at dksX56_plan_1 12 rfl rfl)
theorem dX56_plan_39 : decode cX56_plan 39 = .ok (.iload_n 1, 1) := dk_27 (dk_at dksX56_plan_1 15 rfl rfl)
theorem dX56_plan_40 : decode cX56_plan 40 = .ok (.iastore, 1) := dk_79 (dk_at dksX56_plan_1 16 rfl rfl)
theorem dX56_plan_41 : decode cX56_plan 41 = .ok (.aload_n 0, 1) := dk_42 (dk_at dksX56_plan_1 17 rfl rfl)
theorem dX56_plan_42 : decode cX56_plan 42 = .ok (.getfield 13, 3) := dk_180 0 13 (dk_at dksX56_plan_1 18 rfl rfl)
theorem dX56_plan_45 : decode cX56_plan 45 = .ok (.aload_n 0, 1) := dk_42 (dk_at dksX56_plan_1 21 rfl rfl)
theorem dX56_plan_46 : decode cX56_plan 46 = .ok (.getfield 72, 3) := dk_180 0 72 (dk_at dksX56_plan_2 0 rfl rfl)
theorem dX56_plan_49 : decode cX56_plan 49 = .ok (.iload_n 2, 1) := dk_28 (dk_at dksX56_plan_2 3 rfl rfl)
theorem dX56_plan_50 : decode cX56_plan 50 = .ok (.iastore, 1) := dk_79 (dk_at dksX56_plan_2 4 rfl rfl)
theorem dX56_plan_51 : decode cX56_plan 51 = .ok (.aload_n 0, 1) := dk_42 (dk_at dksX56_plan_2 5 rfl rfl)
theorem dX56_plan_52 : decode cX56_plan 52 = .ok (.dup, 1) := dk_89 (dk_at dksX56_plan_2 6 rfl rfl)
theorem dX56_plan_53 : decode cX56_plan 53 = .ok (.getfield 72, 3) := dk_180 0 72 (dk_at dksX56_plan_2 7 rfl rfl)
theorem dX56_plan_56 : decode cX56_plan 56 = .ok (.iconst 1, 1) := dk_4 (dk_at dksX56_plan_2 10 rfl rfl)
theorem dX56_plan_57 : decode cX56_plan 57 = .ok (.iadd, 1) := dk_96 (dk_at dksX56_plan_2 11 rfl rfl)
theorem dX56_plan_58 : decode cX56_plan 58 = .ok (.putfield 72, 3) := dk_181 0 72 (dk_at dksX56_plan_2 12 rfl rfl)
theorem dX56_plan_61 : decode cX56_plan 61 = .ok (.aload_n 0, 1) := dk_42 (dk_at dksX56_plan_2 15 rfl rfl)
theorem dX56_plan_62 : decode cX56_plan 62 = .ok (.getfield 72, 3) := dk_180 0 72 (dk_at dksX56_plan_2 16 rfl rfl)
theorem dX56_plan_65 : decode cX56_plan 65 = .ok (.iconst 1, 1) := dk_4 (dk_at dksX56_plan_2 19 rfl rfl)
theorem dX56_plan_66 : decode cX56_plan 66 = .ok (.isub, 1) := dk_100 (dk_at dksX56_plan_2 20 rfl rfl)
theorem dX56_plan_67 : decode cX56_plan 67 = .ok (.ireturn, 1) := dk_172 (dk_at dksX56_plan_2 21 rfl rfl)
abbrev cX56_odds : ByteArray := prog_62_method_9_code
def yX56_odds : MethodName := ⟨RX56, "odds", "(IJJI)J"⟩
def dkwX56_odds_2 : List UInt8 := [182, 0, 82, 22, 4, 136, 42, 180, 0, 7, 27, 46, 184, 0, 86, 21, 6, 184, 0, 90, 173]
abbrev dktX56_odds_2 : List UInt8 := dkwX56_odds_2 ++ []
def dkwX56_odds_1 : List UInt8 := [20, 0, 70, 173, 42, 42, 180, 0, 7, 27, 46, 42, 180, 0, 13, 27, 46, 32, 136, 22, 4, 136]
abbrev dktX56_odds_1 : List UInt8 := dkwX56_odds_1 ++ dktX56_odds_2
def dkwX56_odds_0 : List UInt8 := [27, 155, 0, 23, 27, 42, 180, 0, 72, 162, 0, 15, 32, 22, 4, 20, 0, 76, 184, 0, 78, 154, 0, 7]
abbrev dktX56_odds_0 : List UInt8 := dkwX56_odds_0 ++ dktX56_odds_1
theorem dksX56_odds_0 : cX56_odds.data.toList.drop 0 = dktX56_odds_0 := by decide +kernel
theorem dksX56_odds_1 : cX56_odds.data.toList.drop 24 = dktX56_odds_1 := dk_seg dksX56_odds_0 24 rfl rfl
theorem dksX56_odds_2 : cX56_odds.data.toList.drop 46 = dktX56_odds_2 := dk_seg dksX56_odds_1 22 rfl rfl
theorem dX56_odds_0 : decode cX56_odds 0 = .ok (.iload_n 1, 1) := dk_27 (dk_at dksX56_odds_0 0 rfl rfl)
theorem dX56_odds_1 : decode cX56_odds 1 = .ok (.ifCond .lt 23, 3) := dk_155 0 23 (dk_at dksX56_odds_0 1 rfl rfl)
theorem dX56_odds_4 : decode cX56_odds 4 = .ok (.iload_n 1, 1) := dk_27 (dk_at dksX56_odds_0 4 rfl rfl)
theorem dX56_odds_5 : decode cX56_odds 5 = .ok (.aload_n 0, 1) := dk_42 (dk_at dksX56_odds_0 5 rfl rfl)
theorem dX56_odds_6 : decode cX56_odds 6 = .ok (.getfield 72, 3) := dk_180 0 72 (dk_at dksX56_odds_0 6 rfl rfl)
theorem dX56_odds_9 : decode cX56_odds 9 = .ok (.if_icmp .ge 15, 3) := dk_162 0 15 (dk_at dksX56_odds_0 9 rfl rfl)
theorem dX56_odds_12 : decode cX56_odds 12 = .ok (.lload_n 2, 1) := dk_32 (dk_at dksX56_odds_0 12 rfl rfl)
theorem dX56_odds_13 : decode cX56_odds 13 = .ok (.lload 4, 2) := dk_22 4 (dk_at dksX56_odds_0 13 rfl rfl)
theorem dX56_odds_15 : decode cX56_odds 15 = .ok (.ldc2_w 76, 3) := dk_20 0 76 (dk_at dksX56_odds_0 15 rfl rfl)
theorem dX56_odds_18 : decode cX56_odds 18 = .ok (.invokestatic 78, 3) := dk_184 0 78 (dk_at dksX56_odds_0 18 rfl rfl)
theorem dX56_odds_21 : decode cX56_odds 21 = .ok (.ifCond .ne 7, 3) := dk_154 0 7 (dk_at dksX56_odds_0 21 rfl rfl)
theorem dX56_odds_24 : decode cX56_odds 24 = .ok (.ldc2_w 70, 3) := dk_20 0 70 (dk_at dksX56_odds_1 0 rfl rfl)
theorem dX56_odds_27 : decode cX56_odds 27 = .ok (.lreturn, 1) := dk_173 (dk_at dksX56_odds_1 3 rfl rfl)
theorem dX56_odds_28 : decode cX56_odds 28 = .ok (.aload_n 0, 1) := dk_42 (dk_at dksX56_odds_1 4 rfl rfl)
theorem dX56_odds_29 : decode cX56_odds 29 = .ok (.aload_n 0, 1) := dk_42 (dk_at dksX56_odds_1 5 rfl rfl)
theorem dX56_odds_30 : decode cX56_odds 30 = .ok (.getfield 7, 3) := dk_180 0 7 (dk_at dksX56_odds_1 6 rfl rfl)
theorem dX56_odds_33 : decode cX56_odds 33 = .ok (.iload_n 1, 1) := dk_27 (dk_at dksX56_odds_1 9 rfl rfl)
theorem dX56_odds_34 : decode cX56_odds 34 = .ok (.iaload, 1) := dk_46 (dk_at dksX56_odds_1 10 rfl rfl)
theorem dX56_odds_35 : decode cX56_odds 35 = .ok (.aload_n 0, 1) := dk_42 (dk_at dksX56_odds_1 11 rfl rfl)
theorem dX56_odds_36 : decode cX56_odds 36 = .ok (.getfield 13, 3) := dk_180 0 13 (dk_at dksX56_odds_1 12 rfl rfl)
theorem dX56_odds_39 : decode cX56_odds 39 = .ok (.iload_n 1, 1) := dk_27 (dk_at dksX56_odds_1 15 rfl rfl)
theorem dX56_odds_40 : decode cX56_odds 40 = .ok (.iaload, 1) := dk_46 (dk_at dksX56_odds_1 16 rfl rfl)
theorem dX56_odds_41 : decode cX56_odds 41 = .ok (.lload_n 2, 1) := dk_32 (dk_at dksX56_odds_1 17 rfl rfl)
theorem dX56_odds_42 : decode cX56_odds 42 = .ok (.l2i, 1) := dk_136 (dk_at dksX56_odds_1 18 rfl rfl)
theorem dX56_odds_43 : decode cX56_odds 43 = .ok (.lload 4, 2) := dk_22 4 (dk_at dksX56_odds_1 19 rfl rfl)
theorem dX56_odds_45 : decode cX56_odds 45 = .ok (.l2i, 1) := dk_136 (dk_at dksX56_odds_1 21 rfl rfl)
theorem dX56_odds_46 : decode cX56_odds 46 = .ok (.invokevirtual 82, 3) := dk_182 0 82 (dk_at dksX56_odds_2 0 rfl rfl)
theorem dX56_odds_49 : decode cX56_odds 49 = .ok (.lload 4, 2) := dk_22 4 (dk_at dksX56_odds_2 3 rfl rfl)
theorem dX56_odds_51 : decode cX56_odds 51 = .ok (.l2i, 1) := dk_136 (dk_at dksX56_odds_2 5 rfl rfl)
theorem dX56_odds_52 : decode cX56_odds 52 = .ok (.aload_n 0, 1) := dk_42 (dk_at dksX56_odds_2 6 rfl rfl)
theorem dX56_odds_53 : decode cX56_odds 53 = .ok (.getfield 7, 3) := dk_180 0 7 (dk_at dksX56_odds_2 7 rfl rfl)
theorem dX56_odds_56 : decode cX56_odds 56 = .ok (.iload_n 1, 1) := dk_27 (dk_at dksX56_odds_2 10 rfl rfl)
theorem dX56_odds_57 : decode cX56_odds 57 = .ok (.iaload, 1) := dk_46 (dk_at dksX56_odds_2 11 rfl rfl)
theorem dX56_odds_58 : decode cX56_odds 58 = .ok (.invokestatic 86, 3) := dk_184 0 86 (dk_at dksX56_odds_2 12 rfl rfl)
theorem dX56_odds_61 : decode cX56_odds 61 = .ok (.iload 6, 2) := dk_21 6 (dk_at dksX56_odds_2 15 rfl rfl)
theorem dX56_odds_63 : decode cX56_odds 63 = .ok (.invokestatic 90, 3) := dk_184 0 90 (dk_at dksX56_odds_2 17 rfl rfl)
theorem dX56_odds_66 : decode cX56_odds 66 = .ok (.lreturn, 1) := dk_173 (dk_at dksX56_odds_2 20 rfl rfl)
abbrev cX56_isShare : ByteArray := prog_62_method_3_code
def yX56_isShare : MethodName := ⟨RX56, "isShare", "(JJJ)Z"⟩
def dkwX56_isShare_1 : List UInt8 := [157, 0, 7, 4, 167, 0, 4, 3, 172]
abbrev dktX56_isShare_1 : List UInt8 := dkwX56_isShare_1 ++ []
def dkwX56_isShare_0 : List UInt8 := [32, 10, 148, 155, 0, 26, 32, 22, 4, 148, 157, 0, 19, 30, 9, 148, 155, 0, 13, 30, 32, 148]
abbrev dktX56_isShare_0 : List UInt8 := dkwX56_isShare_0 ++ dktX56_isShare_1
theorem dksX56_isShare_0 : cX56_isShare.data.toList.drop 0 = dktX56_isShare_0 := by decide +kernel
theorem dksX56_isShare_1 : cX56_isShare.data.toList.drop 22 = dktX56_isShare_1 := dk_seg dksX56_isShare_0 22 rfl rfl
theorem dX56_isShare_0 : decode cX56_isShare 0 = .ok (.lload_n 2, 1) := dk_32 (dk_at dksX56_isShare_0 0 rfl rfl)
theorem dX56_isShare_1 : decode cX56_isShare 1 = .ok (.lconst 1, 1) := dk_10 (dk_at dksX56_isShare_0 1 rfl rfl)
theorem dX56_isShare_2 : decode cX56_isShare 2 = .ok (.lcmp, 1) := dk_148 (dk_at dksX56_isShare_0 2 rfl rfl)
theorem dX56_isShare_3 : decode cX56_isShare 3 = .ok (.ifCond .lt 26, 3) := dk_155 0 26 (dk_at dksX56_isShare_0 3 rfl rfl)
theorem dX56_isShare_6 : decode cX56_isShare 6 = .ok (.lload_n 2, 1) := dk_32 (dk_at dksX56_isShare_0 6 rfl rfl)
theorem dX56_isShare_7 : decode cX56_isShare 7 = .ok (.lload 4, 2) := dk_22 4 (dk_at dksX56_isShare_0 7 rfl rfl)
theorem dX56_isShare_9 : decode cX56_isShare 9 = .ok (.lcmp, 1) := dk_148 (dk_at dksX56_isShare_0 9 rfl rfl)
theorem dX56_isShare_10 : decode cX56_isShare 10 = .ok (.ifCond .gt 19, 3) := dk_157 0 19 (dk_at dksX56_isShare_0 10 rfl rfl)
theorem dX56_isShare_13 : decode cX56_isShare 13 = .ok (.lload_n 0, 1) := dk_30 (dk_at dksX56_isShare_0 13 rfl rfl)
theorem dX56_isShare_14 : decode cX56_isShare 14 = .ok (.lconst 0, 1) := dk_9 (dk_at dksX56_isShare_0 14 rfl rfl)
theorem dX56_isShare_15 : decode cX56_isShare 15 = .ok (.lcmp, 1) := dk_148 (dk_at dksX56_isShare_0 15 rfl rfl)
theorem dX56_isShare_16 : decode cX56_isShare 16 = .ok (.ifCond .lt 13, 3) := dk_155 0 13 (dk_at dksX56_isShare_0 16 rfl rfl)
theorem dX56_isShare_19 : decode cX56_isShare 19 = .ok (.lload_n 0, 1) := dk_30 (dk_at dksX56_isShare_0 19 rfl rfl)
theorem dX56_isShare_20 : decode cX56_isShare 20 = .ok (.lload_n 2, 1) := dk_32 (dk_at dksX56_isShare_0 20 rfl rfl)
theorem dX56_isShare_21 : decode cX56_isShare 21 = .ok (.lcmp, 1) := dk_148 (dk_at dksX56_isShare_0 21 rfl rfl)
theorem dX56_isShare_22 : decode cX56_isShare 22 = .ok (.ifCond .gt 7, 3) := dk_157 0 7 (dk_at dksX56_isShare_1 0 rfl rfl)
theorem dX56_isShare_25 : decode cX56_isShare 25 = .ok (.iconst 1, 1) := dk_4 (dk_at dksX56_isShare_1 3 rfl rfl)
theorem dX56_isShare_26 : decode cX56_isShare 26 = .ok (.goto 4, 3) := dk_167 0 4 (dk_at dksX56_isShare_1 4 rfl rfl)
theorem dX56_isShare_29 : decode cX56_isShare 29 = .ok (.iconst 0, 1) := dk_3 (dk_at dksX56_isShare_1 7 rfl rfl)
theorem dX56_isShare_30 : decode cX56_isShare 30 = .ok (.ireturn, 1) := dk_172 (dk_at dksX56_isShare_1 8 rfl rfl)
abbrev cX56_passing : ByteArray := prog_62_method_7_code
def yX56_passing : MethodName := ⟨RX56, "passing", "(IIII)J"⟩
def dkwX56_passing_5 : List UInt8 := [22, 5, 42, 180, 0, 56, 21, 7, 47, 97, 55, 5, 132, 7, 1, 167, 255, 235, 22, 5, 173]
abbrev dktX56_passing_5 : List UInt8 := dkwX56_passing_5 ++ []
def dkwX56_passing_4 : List UInt8 := [132, 6, 255, 167, 255, 206, 132, 5, 1, 167, 255, 191, 9, 55, 5, 3, 54, 7, 21, 7, 28, 163, 0, 21]
abbrev dktX56_passing_4 : List UInt8 := dkwX56_passing_4 ++ dktX56_passing_5
def dkwX56_passing_3 : List UInt8 := [21, 6, 158, 0, 18, 42, 180, 0, 56, 21, 6, 4, 100, 47, 29, 133, 105, 167, 0, 4, 9, 97, 80]
abbrev dktX56_passing_3 : List UInt8 := dkwX56_passing_3 ++ dktX56_passing_4
def dkwX56_passing_2 : List UInt8 := [21, 6, 155, 0, 51, 42, 180, 0, 56, 21, 6, 42, 180, 0, 56, 21, 6, 47, 21, 4, 29, 100, 133, 105]
abbrev dktX56_passing_2 : List UInt8 := dkwX56_passing_2 ++ dktX56_passing_3
def dkwX56_passing_1 : List UInt8 := [167, 0, 4, 9, 80, 132, 5, 1, 167, 255, 229, 3, 54, 5, 21, 5, 27, 162, 0, 65, 27, 54, 6]
abbrev dktX56_passing_1 : List UInt8 := dkwX56_passing_1 ++ dktX56_passing_2
def dkwX56_passing_0 : List UInt8 := [3, 54, 5, 21, 5, 16, 7, 163, 0, 26, 42, 180, 0, 56, 21, 5, 21, 5, 154, 0, 7, 10]
abbrev dktX56_passing_0 : List UInt8 := dkwX56_passing_0 ++ dktX56_passing_1
theorem dksX56_passing_0 : cX56_passing.data.toList.drop 0 = dktX56_passing_0 := by decide +kernel
theorem dksX56_passing_1 : cX56_passing.data.toList.drop 22 = dktX56_passing_1 := dk_seg dksX56_passing_0 22 rfl rfl
theorem dksX56_passing_2 : cX56_passing.data.toList.drop 45 = dktX56_passing_2 := dk_seg dksX56_passing_1 23 rfl rfl
theorem dksX56_passing_3 : cX56_passing.data.toList.drop 69 = dktX56_passing_3 := dk_seg dksX56_passing_2 24 rfl rfl
theorem dksX56_passing_4 : cX56_passing.data.toList.drop 92 = dktX56_passing_4 := dk_seg dksX56_passing_3 23 rfl rfl
theorem dksX56_passing_5 : cX56_passing.data.toList.drop 116 = dktX56_passing_5 := dk_seg dksX56_passing_4 24 rfl rfl
theorem dX56_passing_0 : decode cX56_passing 0 = .ok (.iconst 0, 1) := dk_3 (dk_at dksX56_passing_0 0 rfl rfl)
theorem dX56_passing_1 : decode cX56_passing 1 = .ok (.istore 5, 2) := dk_54 5 (dk_at dksX56_passing_0 1 rfl rfl)
theorem dX56_passing_3 : decode cX56_passing 3 = .ok (.iload 5, 2) := dk_21 5 (dk_at dksX56_passing_0 3 rfl rfl)
theorem dX56_passing_5 : decode cX56_passing 5 = .ok (.bipush 7, 2) := dk_16 7 (dk_at dksX56_passing_0 5 rfl rfl)
theorem dX56_passing_7 : decode cX56_passing 7 = .ok (.if_icmp .gt 26, 3) := dk_163 0 26 (dk_at dksX56_passing_0 7 rfl rfl)
theorem dX56_passing_10 : decode cX56_passing 10 = .ok (.aload_n 0, 1) := dk_42 (dk_at dksX56_passing_0 10 rfl rfl)
theorem dX56_passing_11 : decode cX56_passing 11 = .ok (.getfield 56, 3) := dk_180 0 56 (dk_at dksX56_passing_0 11 rfl rfl)
theorem dX56_passing_14 : decode cX56_passing 14 = .ok (.iload 5, 2) := dk_21 5 (dk_at dksX56_passing_0 14 rfl rfl)
theorem dX56_passing_16 : decode cX56_passing 16 = .ok (.iload 5, 2) := dk_21 5 (dk_at dksX56_passing_0 16 rfl rfl)
theorem dX56_passing_18 : decode cX56_passing 18 = .ok (.ifCond .ne 7, 3) := dk_154 0 7 (dk_at dksX56_passing_0 18 rfl rfl)
theorem dX56_passing_21 : decode cX56_passing 21 = .ok (.lconst 1, 1) := dk_10 (dk_at dksX56_passing_0 21 rfl rfl)
theorem dX56_passing_22 : decode cX56_passing 22 = .ok (.goto 4, 3) := dk_167 0 4 (dk_at dksX56_passing_1 0 rfl rfl)
theorem dX56_passing_25 : decode cX56_passing 25 = .ok (.lconst 0, 1) := dk_9 (dk_at dksX56_passing_1 3 rfl rfl)
theorem dX56_passing_26 : decode cX56_passing 26 = .ok (.lastore, 1) := dk_80 (dk_at dksX56_passing_1 4 rfl rfl)
theorem dX56_passing_27 : decode cX56_passing 27 = .ok (.iinc 5 1, 3) := dk_132 5 1 (dk_at dksX56_passing_1 5 rfl rfl)
theorem dX56_passing_30 : decode cX56_passing 30 = .ok (.goto (-27), 3) := dk_167 255 229 (dk_at dksX56_passing_1 8 rfl rfl)
theorem dX56_passing_33 : decode cX56_passing 33 = .ok (.iconst 0, 1) := dk_3 (dk_at dksX56_passing_1 11 rfl rfl)
theorem dX56_passing_34 : decode cX56_passing 34 = .ok (.istore 5, 2) := dk_54 5 (dk_at dksX56_passing_1 12 rfl rfl)
theorem dX56_passing_36 : decode cX56_passing 36 = .ok (.iload 5, 2) := dk_21 5 (dk_at dksX56_passing_1 14 rfl rfl)
theorem dX56_passing_38 : decode cX56_passing 38 = .ok (.iload_n 1, 1) := dk_27 (dk_at dksX56_passing_1 16 rfl rfl)
theorem dX56_passing_39 : decode cX56_passing 39 = .ok (.if_icmp .ge 65, 3) := dk_162 0 65 (dk_at dksX56_passing_1 17 rfl rfl)
theorem dX56_passing_42 : decode cX56_passing 42 = .ok (.iload_n 1, 1) := dk_27 (dk_at dksX56_passing_1 20 rfl rfl)
theorem dX56_passing_43 : decode cX56_passing 43 = .ok (.istore 6, 2) := dk_54 6 (dk_at dksX56_passing_1 21 rfl rfl)
theorem dX56_passing_45 : decode cX56_passing 45 = .ok (.iload 6, 2) := dk_21 6 (dk_at dksX56_passing_2 0 rfl rfl)
theorem dX56_passing_47 : decode cX56_passing 47 = .ok (.ifCond .lt 51, 3) := dk_155 0 51 (dk_at dksX56_passing_2 2 rfl rfl)
theorem dX56_passing_50 : decode cX56_passing 50 = .ok (.aload_n 0, 1) := dk_42 (dk_at dksX56_passing_2 5 rfl rfl)
theorem dX56_passing_51 : decode cX56_passing 51 = .ok (.getfield 56, 3) := dk_180 0 56 (dk_at dksX56_passing_2 6 rfl rfl)
theorem dX56_passing_54 : decode cX56_passing 54 = .ok (.iload 6, 2) := dk_21 6 (dk_at dksX56_passing_2 9 rfl rfl)
theorem dX56_passing_56 : decode cX56_passing 56 = .ok (.aload_n 0, 1) := dk_42 (dk_at dksX56_passing_2 11 rfl rfl)
theorem dX56_passing_57 : decode cX56_passing 57 = .ok (.getfield 56, 3) := dk_180 0 56 (dk_at dksX56_passing_2 12 rfl rfl)
theorem dX56_passing_60 : decode cX56_passing 60 = .ok (.iload 6, 2) := dk_21 6 (dk_at dksX56_passing_2 15 rfl rfl)
theorem dX56_passing_62 : decode cX56_passing 62 = .ok (.laload, 1) := dk_47 (dk_at dksX56_passing_2 17 rfl rfl)
theorem dX56_passing_63 : decode cX56_passing 63 = .ok (.iload 4, 2) := dk_21 4 (dk_at dksX56_passing_2 18 rfl rfl)
theorem dX56_passing_65 : decode cX56_passing 65 = .ok (.iload_n 3, 1) := dk_29 (dk_at dksX56_passing_2 20 rfl rfl)
theorem dX56_passing_66 : decode cX56_passing 66 = .ok (.isub, 1) := dk_100 (dk_at dksX56_passing_2 21 rfl rfl)
theorem dX56_passing_67 : decode cX56_passing 67 = .ok (.i2l, 1) := dk_133 (dk_at dksX56_passing_2 22 rfl rfl)
theorem dX56_passing_68 : decode cX56_passing 68 = .ok (.lmul, 1) := dk_105 (dk_at dksX56_passing_2 23 rfl rfl)
theorem dX56_passing_69 : decode cX56_passing 69 = .ok (.iload 6, 2) := dk_21 6 (dk_at dksX56_passing_3 0 rfl rfl)
theorem dX56_passing_71 : decode cX56_passing 71 = .ok (.ifCond .le 18, 3) := dk_158 0 18 (dk_at dksX56_passing_3 2 rfl rfl)
theorem dX56_passing_74 : decode cX56_passing 74 = .ok (.aload_n 0, 1) := dk_42 (dk_at dksX56_passing_3 5 rfl rfl)
theorem dX56_passing_75 : decode cX56_passing 75 = .ok (.getfield 56, 3) := dk_180 0 56 (dk_at dksX56_passing_3 6 rfl rfl)
theorem dX56_passing_78 : decode cX56_passing 78 = .ok (.iload 6, 2) := dk_21 6 (dk_at dksX56_passing_3 9 rfl rfl)
theorem dX56_passing_80 : decode cX56_passing 80 = .ok (.iconst 1, 1) := dk_4 (dk_at dksX56_passing_3 11 rfl rfl)
theorem dX56_passing_81 : decode cX56_passing 81 = .ok (.isub, 1) := dk_100 (dk_at dksX56_passing_3 12 rfl rfl)
theorem dX56_passing_82 : decode cX56_passing 82 = .ok (.laload, 1) := dk_47 (dk_at dksX56_passing_3 13 rfl rfl)
theorem dX56_passing_83 : decode cX56_passing 83 = .ok (.iload_n 3, 1) := dk_29 (dk_at dksX56_passing_3 14 rfl rfl)
theorem dX56_passing_84 : decode cX56_passing 84 = .ok (.i2l, 1) := dk_133 (dk_at dksX56_passing_3 15 rfl rfl)
theorem dX56_passing_85 : decode cX56_passing 85 = .ok (.lmul, 1) := dk_105 (dk_at dksX56_passing_3 16 rfl rfl)
theorem dX56_passing_86 : decode cX56_passing 86 = .ok (.goto 4, 3) := dk_167 0 4 (dk_at dksX56_passing_3 17 rfl rfl)
theorem dX56_passing_89 : decode cX56_passing 89 = .ok (.lconst 0, 1) := dk_9 (dk_at dksX56_passing_3 20 rfl rfl)
theorem dX56_passing_90 : decode cX56_passing 90 = .ok (.ladd, 1) := dk_97 (dk_at dksX56_passing_3 21 rfl rfl)
theorem dX56_passing_91 : decode cX56_passing 91 = .ok (.lastore, 1) := dk_80 (dk_at dksX56_passing_3 22 rfl rfl)
theorem dX56_passing_92 : decode cX56_passing 92 = .ok (.iinc 6 (-1), 3) := dk_132 6 255 (dk_at dksX56_passing_4 0 rfl rfl)
theorem dX56_passing_95 : decode cX56_passing 95 = .ok (.goto (-50), 3) := dk_167 255 206 (dk_at dksX56_passing_4 3 rfl rfl)
theorem dX56_passing_98 : decode cX56_passing 98 = .ok (.iinc 5 1, 3) := dk_132 5 1 (dk_at dksX56_passing_4 6 rfl rfl)
theorem dX56_passing_101 : decode cX56_passing 101 = .ok (.goto (-65), 3) := dk_167 255 191 (dk_at dksX56_passing_4 9 rfl rfl)
theorem dX56_passing_104 : decode cX56_passing 104 = .ok (.lconst 0, 1) := dk_9 (dk_at dksX56_passing_4 12 rfl rfl)
theorem dX56_passing_105 : decode cX56_passing 105 = .ok (.lstore 5, 2) := dk_55 5 (dk_at dksX56_passing_4 13 rfl rfl)
theorem dX56_passing_107 : decode cX56_passing 107 = .ok (.iconst 0, 1) := dk_3 (dk_at dksX56_passing_4 15 rfl rfl)
theorem dX56_passing_108 : decode cX56_passing 108 = .ok (.istore 7, 2) := dk_54 7 (dk_at dksX56_passing_4 16 rfl rfl)
theorem dX56_passing_110 : decode cX56_passing 110 = .ok (.iload 7, 2) := dk_21 7 (dk_at dksX56_passing_4 18 rfl rfl)
theorem dX56_passing_112 : decode cX56_passing 112 = .ok (.iload_n 2, 1) := dk_28 (dk_at dksX56_passing_4 20 rfl rfl)
theorem dX56_passing_113 : decode cX56_passing 113 = .ok (.if_icmp .gt 21, 3) := dk_163 0 21 (dk_at dksX56_passing_4 21 rfl rfl)
theorem dX56_passing_116 : decode cX56_passing 116 = .ok (.lload 5, 2) := dk_22 5 (dk_at dksX56_passing_5 0 rfl rfl)
theorem dX56_passing_118 : decode cX56_passing 118 = .ok (.aload_n 0, 1) := dk_42 (dk_at dksX56_passing_5 2 rfl rfl)
theorem dX56_passing_119 : decode cX56_passing 119 = .ok (.getfield 56, 3) := dk_180 0 56 (dk_at dksX56_passing_5 3 rfl rfl)
theorem dX56_passing_122 : decode cX56_passing 122 = .ok (.iload 7, 2) := dk_21 7 (dk_at dksX56_passing_5 6 rfl rfl)
theorem dX56_passing_124 : decode cX56_passing 124 = .ok (.laload, 1) := dk_47 (dk_at dksX56_passing_5 8 rfl rfl)
theorem dX56_passing_125 : decode cX56_passing 125 = .ok (.ladd, 1) := dk_97 (dk_at dksX56_passing_5 9 rfl rfl)
theorem dX56_passing_126 : decode cX56_passing 126 = .ok (.lstore 5, 2) := dk_55 5 (dk_at dksX56_passing_5 10 rfl rfl)
theorem dX56_passing_128 : decode cX56_passing 128 = .ok (.iinc 7 1, 3) := dk_132 7 1 (dk_at dksX56_passing_5 12 rfl rfl)
theorem dX56_passing_131 : decode cX56_passing 131 = .ok (.goto (-21), 3) := dk_167 255 235 (dk_at dksX56_passing_5 15 rfl rfl)
theorem dX56_passing_134 : decode cX56_passing 134 = .ok (.lload 5, 2) := dk_22 5 (dk_at dksX56_passing_5 18 rfl rfl)
theorem dX56_passing_136 : decode cX56_passing 136 = .ok (.lreturn, 1) := dk_173 (dk_at dksX56_passing_5 20 rfl rfl)
abbrev cX56_power : ByteArray := prog_62_method_8_code
def yX56_power : MethodName := ⟨RX56, "power", "(II)J"⟩
def dkwX56_power_0 : List UInt8 := [10, 65, 3, 54, 4, 21, 4, 27, 162, 0, 14, 32, 26, 133, 105, 65, 132, 4, 1, 167, 255, 242, 32, 173]
abbrev dktX56_power_0 : List UInt8 := dkwX56_power_0 ++ []
theorem dksX56_power_0 : cX56_power.data.toList.drop 0 = dktX56_power_0 := by decide +kernel
theorem dX56_power_0 : decode cX56_power 0 = .ok (.lconst 1, 1) := dk_10 (dk_at dksX56_power_0 0 rfl rfl)
theorem dX56_power_1 : decode cX56_power 1 = .ok (.lstore_n 2, 1) := dk_65 (dk_at dksX56_power_0 1 rfl rfl)
theorem dX56_power_2 : decode cX56_power 2 = .ok (.iconst 0, 1) := dk_3 (dk_at dksX56_power_0 2 rfl rfl)
theorem dX56_power_3 : decode cX56_power 3 = .ok (.istore 4, 2) := dk_54 4 (dk_at dksX56_power_0 3 rfl rfl)
theorem dX56_power_5 : decode cX56_power 5 = .ok (.iload 4, 2) := dk_21 4 (dk_at dksX56_power_0 5 rfl rfl)
theorem dX56_power_7 : decode cX56_power 7 = .ok (.iload_n 1, 1) := dk_27 (dk_at dksX56_power_0 7 rfl rfl)
theorem dX56_power_8 : decode cX56_power 8 = .ok (.if_icmp .ge 14, 3) := dk_162 0 14 (dk_at dksX56_power_0 8 rfl rfl)
theorem dX56_power_11 : decode cX56_power 11 = .ok (.lload_n 2, 1) := dk_32 (dk_at dksX56_power_0 11 rfl rfl)
theorem dX56_power_12 : decode cX56_power 12 = .ok (.iload_n 0, 1) := dk_26 (dk_at dksX56_power_0 12 rfl rfl)
theorem dX56_power_13 : decode cX56_power 13 = .ok (.i2l, 1) := dk_133 (dk_at dksX56_power_0 13 rfl rfl)
theorem dX56_power_14 : decode cX56_power 14 = .ok (.lmul, 1) := dk_105 (dk_at dksX56_power_0 14 rfl rfl)
theorem dX56_power_15 : decode cX56_power 15 = .ok (.lstore_n 2, 1) := dk_65 (dk_at dksX56_power_0 15 rfl rfl)
theorem dX56_power_16 : decode cX56_power 16 = .ok (.iinc 4 1, 3) := dk_132 4 1 (dk_at dksX56_power_0 16 rfl rfl)
theorem dX56_power_19 : decode cX56_power 19 = .ok (.goto (-14), 3) := dk_167 255 242 (dk_at dksX56_power_0 19 rfl rfl)
theorem dX56_power_22 : decode cX56_power 22 = .ok (.lload_n 2, 1) := dk_32 (dk_at dksX56_power_0 22 rfl rfl)
theorem dX56_power_23 : decode cX56_power 23 = .ok (.lreturn, 1) := dk_173 (dk_at dksX56_power_0 23 rfl rfl)
abbrev cX56_best : ByteArray := prog_62_method_12_code
def yX56_best : MethodName := ⟨RX56, "best", "(IJJJJ)I"⟩
def dkwX56_best_8 : List UInt8 := [167, 255, 185, 42, 21, 10, 21, 11, 182, 0, 112, 172]
abbrev dktX56_best_8 : List UInt8 := dkwX56_best_8 ++ []
def dkwX56_best_7 : List UInt8 := [54, 11, 42, 180, 0, 97, 55, 12, 42, 180, 0, 94, 55, 14, 132, 17, 1, 167, 255, 200, 132, 16, 1]
abbrev dktX56_best_7 : List UInt8 := dkwX56_best_7 ++ dktX56_best_8
def dkwX56_best_6 : List UInt8 := [180, 0, 97, 22, 14, 105, 22, 12, 42, 180, 0, 94, 105, 148, 156, 0, 23, 21, 16, 54, 10, 21, 17]
abbrev dktX56_best_6 : List UInt8 := dkwX56_best_6 ++ dktX56_best_7
def dkwX56_best_5 : List UInt8 := [27, 163, 0, 71, 3, 54, 17, 21, 17, 21, 16, 163, 0, 55, 42, 21, 16, 21, 17, 182, 0, 108, 42]
abbrev dktX56_best_5 : List UInt8 := dkwX56_best_5 ++ dktX56_best_6
def dkwX56_best_4 : List UInt8 := [136, 79, 42, 4, 181, 0, 104, 3, 54, 10, 3, 54, 11, 10, 55, 12, 9, 55, 14, 4, 54, 16, 21, 16]
abbrev dktX56_best_4 : List UInt8 := dkwX56_best_4 ++ dktX56_best_5
def dkwX56_best_3 : List UInt8 := [180, 0, 16, 4, 22, 4, 136, 79, 42, 180, 0, 16, 5, 22, 6, 136, 79, 42, 180, 0, 16, 6, 22, 8]
abbrev dktX56_best_3 : List UInt8 := dkwX56_best_3 ++ dktX56_best_4
def dkwX56_best_2 : List UInt8 := [22, 8, 105, 22, 6, 22, 4, 105, 148, 155, 0, 5, 2, 172, 42, 180, 0, 16, 3, 32, 136, 79, 42]
abbrev dktX56_best_2 : List UInt8 := dkwX56_best_2 ++ dktX56_best_3
def dkwX56_best_1 : List UInt8 := [20, 0, 76, 184, 0, 78, 153, 0, 29, 22, 6, 22, 8, 20, 0, 76, 184, 0, 78, 153, 0, 16, 32]
abbrev dktX56_best_1 : List UInt8 := dkwX56_best_1 ++ dktX56_best_2
def dkwX56_best_0 : List UInt8 := [42, 180, 0, 72, 16, 20, 159, 0, 52, 27, 4, 161, 0, 47, 27, 16, 7, 163, 0, 41, 32, 22, 4]
abbrev dktX56_best_0 : List UInt8 := dkwX56_best_0 ++ dktX56_best_1
theorem dksX56_best_0 : cX56_best.data.toList.drop 0 = dktX56_best_0 := by decide +kernel
theorem dksX56_best_1 : cX56_best.data.toList.drop 23 = dktX56_best_1 := dk_seg dksX56_best_0 23 rfl rfl
theorem dksX56_best_2 : cX56_best.data.toList.drop 46 = dktX56_best_2 := dk_seg dksX56_best_1 23 rfl rfl
theorem dksX56_best_3 : cX56_best.data.toList.drop 69 = dktX56_best_3 := dk_seg dksX56_best_2 23 rfl rfl
theorem dksX56_best_4 : cX56_best.data.toList.drop 93 = dktX56_best_4 := dk_seg dksX56_best_3 24 rfl rfl
theorem dksX56_best_5 : cX56_best.data.toList.drop 117 = dktX56_best_5 := dk_seg dksX56_best_4 24 rfl rfl
theorem dksX56_best_6 : cX56_best.data.toList.drop 140 = dktX56_best_6 := dk_seg dksX56_best_5 23 rfl rfl
theorem dksX56_best_7 : cX56_best.data.toList.drop 163 = dktX56_best_7 := dk_seg dksX56_best_6 23 rfl rfl
theorem dksX56_best_8 : cX56_best.data.toList.drop 186 = dktX56_best_8 := dk_seg dksX56_best_7 23 rfl rfl
theorem dX56_best_0 : decode cX56_best 0 = .ok (.aload_n 0, 1) := dk_42 (dk_at dksX56_best_0 0 rfl rfl)
theorem dX56_best_1 : decode cX56_best 1 = .ok (.getfield 72, 3) := dk_180 0 72 (dk_at dksX56_best_0 1 rfl rfl)
theorem dX56_best_4 : decode cX56_best 4 = .ok (.bipush 20, 2) := dk_16 20 (dk_at dksX56_best_0 4 rfl rfl)
theorem dX56_best_6 : decode cX56_best 6 = .ok (.if_icmp .eq 52, 3) := dk_159 0 52 (dk_at dksX56_best_0 6 rfl rfl)
theorem dX56_best_9 : decode cX56_best 9 = .ok (.iload_n 1, 1) := dk_27 (dk_at dksX56_best_0 9 rfl rfl)
theorem dX56_best_10 : decode cX56_best 10 = .ok (.iconst 1, 1) := dk_4 (dk_at dksX56_best_0 10 rfl rfl)
theorem dX56_best_11 : decode cX56_best 11 = .ok (.if_icmp .lt 47, 3) := dk_161 0 47 (dk_at dksX56_best_0 11 rfl rfl)
theorem dX56_best_14 : decode cX56_best 14 = .ok (.iload_n 1, 1) := dk_27 (dk_at dksX56_best_0 14 rfl rfl)
theorem dX56_best_15 : decode cX56_best 15 = .ok (.bipush 7, 2) := dk_16 7 (dk_at dksX56_best_0 15 rfl rfl)
theorem dX56_best_17 : decode cX56_best 17 = .ok (.if_icmp .gt 41, 3) := dk_163 0 41 (dk_at dksX56_best_0 17 rfl rfl)
theorem dX56_best_20 : decode cX56_best 20 = .ok (.lload_n 2, 1) := dk_32 (dk_at dksX56_best_0 20 rfl rfl)
theorem dX56_best_21 : decode cX56_best 21 = .ok (.lload 4, 2) := dk_22 4 (dk_at dksX56_best_0 21 rfl rfl)
theorem dX56_best_23 : decode cX56_best 23 = .ok (.ldc2_w 76, 3) := dk_20 0 76 (dk_at dksX56_best_1 0 rfl rfl)
theorem dX56_best_26 : decode cX56_best 26 = .ok (.invokestatic 78, 3) := dk_184 0 78 (dk_at dksX56_best_1 3 rfl rfl)
theorem dX56_best_29 : decode cX56_best 29 = .ok (.ifCond .eq 29, 3) := dk_153 0 29 (dk_at dksX56_best_1 6 rfl rfl)
theorem dX56_best_32 : decode cX56_best 32 = .ok (.lload 6, 2) := dk_22 6 (dk_at dksX56_best_1 9 rfl rfl)
theorem dX56_best_34 : decode cX56_best 34 = .ok (.lload 8, 2) := dk_22 8 (dk_at dksX56_best_1 11 rfl rfl)
theorem dX56_best_36 : decode cX56_best 36 = .ok (.ldc2_w 76, 3) := dk_20 0 76 (dk_at dksX56_best_1 13 rfl rfl)
theorem dX56_best_39 : decode cX56_best 39 = .ok (.invokestatic 78, 3) := dk_184 0 78 (dk_at dksX56_best_1 16 rfl rfl)
theorem dX56_best_42 : decode cX56_best 42 = .ok (.ifCond .eq 16, 3) := dk_153 0 16 (dk_at dksX56_best_1 19 rfl rfl)
theorem dX56_best_45 : decode cX56_best 45 = .ok (.lload_n 2, 1) := dk_32 (dk_at dksX56_best_1 22 rfl rfl)
theorem dX56_best_46 : decode cX56_best 46 = .ok (.lload 8, 2) := dk_22 8 (dk_at dksX56_best_2 0 rfl rfl)
theorem dX56_best_48 : decode cX56_best 48 = .ok (.lmul, 1) := dk_105 (dk_at dksX56_best_2 2 rfl rfl)
theorem dX56_best_49 : decode cX56_best 49 = .ok (.lload 6, 2) := dk_22 6 (dk_at dksX56_best_2 3 rfl rfl)
theorem dX56_best_51 : decode cX56_best 51 = .ok (.lload 4, 2) := dk_22 4 (dk_at dksX56_best_2 5 rfl rfl)
theorem dX56_best_53 : decode cX56_best 53 = .ok (.lmul, 1) := dk_105 (dk_at dksX56_best_2 7 rfl rfl)
theorem dX56_best_54 : decode cX56_best 54 = .ok (.lcmp, 1) := dk_148 (dk_at dksX56_best_2 8 rfl rfl)
theorem dX56_best_55 : decode cX56_best 55 = .ok (.ifCond .lt 5, 3) := dk_155 0 5 (dk_at dksX56_best_2 9 rfl rfl)
theorem dX56_best_58 : decode cX56_best 58 = .ok (.iconst (-1), 1) := dk_2 (dk_at dksX56_best_2 12 rfl rfl)
theorem dX56_best_59 : decode cX56_best 59 = .ok (.ireturn, 1) := dk_172 (dk_at dksX56_best_2 13 rfl rfl)
theorem dX56_best_60 : decode cX56_best 60 = .ok (.aload_n 0, 1) := dk_42 (dk_at dksX56_best_2 14 rfl rfl)
theorem dX56_best_61 : decode cX56_best 61 = .ok (.getfield 16, 3) := dk_180 0 16 (dk_at dksX56_best_2 15 rfl rfl)
theorem dX56_best_64 : decode cX56_best 64 = .ok (.iconst 0, 1) := dk_3 (dk_at dksX56_best_2 18 rfl rfl)
theorem dX56_best_65 : decode cX56_best 65 = .ok (.lload_n 2, 1) := dk_32 (dk_at dksX56_best_2 19 rfl rfl)
theorem dX56_best_66 : decode cX56_best 66 = .ok (.l2i, 1) := dk_136 (dk_at dksX56_best_2 20 rfl rfl)
theorem dX56_best_67 : decode cX56_best 67 = .ok (.iastore, 1) := dk_79 (dk_at dksX56_best_2 21 rfl rfl)
theorem dX56_best_68 : decode cX56_best 68 = .ok (.aload_n 0, 1) := dk_42 (dk_at dksX56_best_2 22 rfl rfl)
theorem dX56_best_69 : decode cX56_best 69 = .ok (.getfield 16, 3) := dk_180 0 16 (dk_at dksX56_best_3 0 rfl rfl)
theorem dX56_best_72 : decode cX56_best 72 = .ok (.iconst 1, 1) := dk_4 (dk_at dksX56_best_3 3 rfl rfl)
theorem dX56_best_73 : decode cX56_best 73 = .ok (.lload 4, 2) := dk_22 4 (dk_at dksX56_best_3 4 rfl rfl)
theorem dX56_best_75 : decode cX56_best 75 = .ok (.l2i, 1) := dk_136 (dk_at dksX56_best_3 6 rfl rfl)
theorem dX56_best_76 : decode cX56_best 76 = .ok (.iastore, 1) := dk_79 (dk_at dksX56_best_3 7 rfl rfl)
theorem dX56_best_77 : decode cX56_best 77 = .ok (.aload_n 0, 1) := dk_42 (dk_at dksX56_best_3 8 rfl rfl)
theorem dX56_best_78 : decode cX56_best 78 = .ok (.getfield 16, 3) := dk_180 0 16 (dk_at dksX56_best_3 9 rfl rfl)
theorem dX56_best_81 : decode cX56_best 81 = .ok (.iconst 2, 1) := dk_5 (dk_at dksX56_best_3 12 rfl rfl)
theorem dX56_best_82 : decode cX56_best 82 = .ok (.lload 6, 2) := dk_22 6 (dk_at dksX56_best_3 13 rfl rfl)
theorem dX56_best_84 : decode cX56_best 84 = .ok (.l2i, 1) := dk_136 (dk_at dksX56_best_3 15 rfl rfl)
theorem dX56_best_85 : decode cX56_best 85 = .ok (.iastore, 1) := dk_79 (dk_at dksX56_best_3 16 rfl rfl)
theorem dX56_best_86 : decode cX56_best 86 = .ok (.aload_n 0, 1) := dk_42 (dk_at dksX56_best_3 17 rfl rfl)
theorem dX56_best_87 : decode cX56_best 87 = .ok (.getfield 16, 3) := dk_180 0 16 (dk_at dksX56_best_3 18 rfl rfl)
theorem dX56_best_90 : decode cX56_best 90 = .ok (.iconst 3, 1) := dk_6 (dk_at dksX56_best_3 21 rfl rfl)
theorem dX56_best_91 : decode cX56_best 91 = .ok (.lload 8, 2) := dk_22 8 (dk_at dksX56_best_3 22 rfl rfl)
theorem dX56_best_93 : decode cX56_best 93 = .ok (.l2i, 1) := dk_136 (dk_at dksX56_best_4 0 rfl rfl)
theorem dX56_best_94 : decode cX56_best 94 = .ok (.iastore, 1) := dk_79 (dk_at dksX56_best_4 1 rfl rfl)
theorem dX56_best_95 : decode cX56_best 95 = .ok (.aload_n 0, 1) := dk_42 (dk_at dksX56_best_4 2 rfl rfl)
theorem dX56_best_96 : decode cX56_best 96 = .ok (.iconst 1, 1) := dk_4 (dk_at dksX56_best_4 3 rfl rfl)
theorem dX56_best_97 : decode cX56_best 97 = .ok (.putfield 104, 3) := dk_181 0 104 (dk_at dksX56_best_4 4 rfl rfl)
theorem dX56_best_100 : decode cX56_best 100 = .ok (.iconst 0, 1) := dk_3 (dk_at dksX56_best_4 7 rfl rfl)
theorem dX56_best_101 : decode cX56_best 101 = .ok (.istore 10, 2) := dk_54 10 (dk_at dksX56_best_4 8 rfl rfl)
theorem dX56_best_103 : decode cX56_best 103 = .ok (.iconst 0, 1) := dk_3 (dk_at dksX56_best_4 10 rfl rfl)
theorem dX56_best_104 : decode cX56_best 104 = .ok (.istore 11, 2) := dk_54 11 (dk_at dksX56_best_4 11 rfl rfl)
theorem dX56_best_106 : decode cX56_best 106 = .ok (.lconst 1, 1) := dk_10 (dk_at dksX56_best_4 13 rfl rfl)
theorem dX56_best_107 : decode cX56_best 107 = .ok (.lstore 12, 2) := dk_55 12 (dk_at dksX56_best_4 14 rfl rfl)
theorem dX56_best_109 : decode cX56_best 109 = .ok (.lconst 0, 1) := dk_9 (dk_at dksX56_best_4 16 rfl rfl)
theorem dX56_best_110 : decode cX56_best 110 = .ok (.lstore 14, 2) := dk_55 14 (dk_at dksX56_best_4 17 rfl rfl)
theorem dX56_best_112 : decode cX56_best 112 = .ok (.iconst 1, 1) := dk_4 (dk_at dksX56_best_4 19 rfl rfl)
theorem dX56_best_113 : decode cX56_best 113 = .ok (.istore 16, 2) := dk_54 16 (dk_at dksX56_best_4 20 rfl rfl)
theorem dX56_best_115 : decode cX56_best 115 = .ok (.iload 16, 2) := dk_21 16 (dk_at dksX56_best_4 22 rfl rfl)
theorem dX56_best_117 : decode cX56_best 117 = .ok (.iload_n 1, 1) := dk_27 (dk_at dksX56_best_5 0 rfl rfl)
theorem dX56_best_118 : decode cX56_best 118 = .ok (.if_icmp .gt 71, 3) := dk_163 0 71 (dk_at dksX56_best_5 1 rfl rfl)
theorem dX56_best_121 : decode cX56_best 121 = .ok (.iconst 0, 1) := dk_3 (dk_at dksX56_best_5 4 rfl rfl)
theorem dX56_best_122 : decode cX56_best 122 = .ok (.istore 17, 2) := dk_54 17 (dk_at dksX56_best_5 5 rfl rfl)
theorem dX56_best_124 : decode cX56_best 124 = .ok (.iload 17, 2) := dk_21 17 (dk_at dksX56_best_5 7 rfl rfl)
theorem dX56_best_126 : decode cX56_best 126 = .ok (.iload 16, 2) := dk_21 16 (dk_at dksX56_best_5 9 rfl rfl)
theorem dX56_best_128 : decode cX56_best 128 = .ok (.if_icmp .gt 55, 3) := dk_163 0 55 (dk_at dksX56_best_5 11 rfl rfl)
theorem dX56_best_131 : decode cX56_best 131 = .ok (.aload_n 0, 1) := dk_42 (dk_at dksX56_best_5 14 rfl rfl)
theorem dX56_best_132 : decode cX56_best 132 = .ok (.iload 16, 2) := dk_21 16 (dk_at dksX56_best_5 15 rfl rfl)
theorem dX56_best_134 : decode cX56_best 134 = .ok (.iload 17, 2) := dk_21 17 (dk_at dksX56_best_5 17 rfl rfl)
theorem dX56_best_136 : decode cX56_best 136 = .ok (.invokevirtual 108, 3) := dk_182 0 108 (dk_at dksX56_best_5 19 rfl rfl)
theorem dX56_best_139 : decode cX56_best 139 = .ok (.aload_n 0, 1) := dk_42 (dk_at dksX56_best_5 22 rfl rfl)
theorem dX56_best_140 : decode cX56_best 140 = .ok (.getfield 97, 3) := dk_180 0 97 (dk_at dksX56_best_6 0 rfl rfl)
theorem dX56_best_143 : decode cX56_best 143 = .ok (.lload 14, 2) := dk_22 14 (dk_at dksX56_best_6 3 rfl rfl)
theorem dX56_best_145 : decode cX56_best 145 = .ok (.lmul, 1) := dk_105 (dk_at dksX56_best_6 5 rfl rfl)
theorem dX56_best_146 : decode cX56_best 146 = .ok (.lload 12, 2) := dk_22 12 (dk_at dksX56_best_6 6 rfl rfl)
theorem dX56_best_148 : decode cX56_best 148 = .ok (.aload_n 0, 1) := dk_42 (dk_at dksX56_best_6 8 rfl rfl)
theorem dX56_best_149 : decode cX56_best 149 = .ok (.getfield 94, 3) := dk_180 0 94 (dk_at dksX56_best_6 9 rfl rfl)
theorem dX56_best_152 : decode cX56_best 152 = .ok (.lmul, 1) := dk_105 (dk_at dksX56_best_6 12 rfl rfl)
theorem dX56_best_153 : decode cX56_best 153 = .ok (.lcmp, 1) := dk_148 (dk_at dksX56_best_6 13 rfl rfl)
theorem dX56_best_154 : decode cX56_best 154 = .ok (.ifCond .ge 23, 3) := dk_156 0 23 (dk_at dksX56_best_6 14 rfl rfl)
theorem dX56_best_157 : decode cX56_best 157 = .ok (.iload 16, 2) := dk_21 16 (dk_at dksX56_best_6 17 rfl rfl)
theorem dX56_best_159 : decode cX56_best 159 = .ok (.istore 10, 2) := dk_54 10 (dk_at dksX56_best_6 19 rfl rfl)
theorem dX56_best_161 : decode cX56_best 161 = .ok (.iload 17, 2) := dk_21 17 (dk_at dksX56_best_6 21 rfl rfl)
theorem dX56_best_163 : decode cX56_best 163 = .ok (.istore 11, 2) := dk_54 11 (dk_at dksX56_best_7 0 rfl rfl)
theorem dX56_best_165 : decode cX56_best 165 = .ok (.aload_n 0, 1) := dk_42 (dk_at dksX56_best_7 2 rfl rfl)
theorem dX56_best_166 : decode cX56_best 166 = .ok (.getfield 97, 3) := dk_180 0 97 (dk_at dksX56_best_7 3 rfl rfl)
theorem dX56_best_169 : decode cX56_best 169 = .ok (.lstore 12, 2) := dk_55 12 (dk_at dksX56_best_7 6 rfl rfl)
theorem dX56_best_171 : decode cX56_best 171 = .ok (.aload_n 0, 1) := dk_42 (dk_at dksX56_best_7 8 rfl rfl)
theorem dX56_best_172 : decode cX56_best 172 = .ok (.getfield 94, 3) := dk_180 0 94 (dk_at dksX56_best_7 9 rfl rfl)
theorem dX56_best_175 : decode cX56_best 175 = .ok (.lstore 14, 2) := dk_55 14 (dk_at dksX56_best_7 12 rfl rfl)
theorem dX56_best_177 : decode cX56_best 177 = .ok (.iinc 17 1, 3) := dk_132 17 1 (dk_at dksX56_best_7 14 rfl rfl)
theorem dX56_best_180 : decode cX56_best 180 = .ok (.goto (-56), 3) := dk_167 255 200 (dk_at dksX56_best_7 17 rfl rfl)
theorem dX56_best_183 : decode cX56_best 183 = .ok (.iinc 16 1, 3) := dk_132 16 1 (dk_at dksX56_best_7 20 rfl rfl)
theorem dX56_best_186 : decode cX56_best 186 = .ok (.goto (-71), 3) := dk_167 255 185 (dk_at dksX56_best_8 0 rfl rfl)
theorem dX56_best_189 : decode cX56_best 189 = .ok (.aload_n 0, 1) := dk_42 (dk_at dksX56_best_8 3 rfl rfl)
theorem dX56_best_190 : decode cX56_best 190 = .ok (.iload 10, 2) := dk_21 10 (dk_at dksX56_best_8 4 rfl rfl)
theorem dX56_best_192 : decode cX56_best 192 = .ok (.iload 11, 2) := dk_21 11 (dk_at dksX56_best_8 6 rfl rfl)
theorem dX56_best_194 : decode cX56_best 194 = .ok (.invokevirtual 112, 3) := dk_182 0 112 (dk_at dksX56_best_8 8 rfl rfl)
theorem dX56_best_197 : decode cX56_best 197 = .ok (.ireturn, 1) := dk_172 (dk_at dksX56_best_8 11 rfl rfl)
abbrev cX56_reckonGreater : ByteArray := prog_62_method_11_code
def yX56_reckonGreater : MethodName := ⟨RX56, "reckonGreater", "(II)V"⟩
def dkwX56_reckonGreater_2 : List UInt8 := [181, 0, 97, 42, 22, 5, 181, 0, 94, 177]
abbrev dktX56_reckonGreater_2 : List UInt8 := dkwX56_reckonGreater_2 ++ []
def dkwX56_reckonGreater_1 : List UInt8 := [182, 0, 100, 33, 42, 180, 0, 94, 105, 42, 180, 0, 97, 22, 5, 105, 148, 158, 0, 14, 42, 33]
abbrev dktX56_reckonGreater_1 : List UInt8 := dkwX56_reckonGreater_1 ++ dktX56_reckonGreater_2
def dkwX56_reckonGreater_0 : List UInt8 := [42, 27, 28, 3, 182, 0, 100, 42, 180, 0, 97, 66, 42, 180, 0, 94, 55, 5, 42, 27, 28, 4]
abbrev dktX56_reckonGreater_0 : List UInt8 := dkwX56_reckonGreater_0 ++ dktX56_reckonGreater_1
theorem dksX56_reckonGreater_0 : cX56_reckonGreater.data.toList.drop 0 = dktX56_reckonGreater_0 := by decide +kernel
theorem dksX56_reckonGreater_1 : cX56_reckonGreater.data.toList.drop 22 = dktX56_reckonGreater_1 := dk_seg dksX56_reckonGreater_0 22 rfl rfl
theorem dksX56_reckonGreater_2 : cX56_reckonGreater.data.toList.drop 44 = dktX56_reckonGreater_2 := dk_seg dksX56_reckonGreater_1 22 rfl rfl
theorem dX56_reckonGreater_0 : decode cX56_reckonGreater 0 = .ok (.aload_n 0, 1) := dk_42 (dk_at dksX56_reckonGreater_0 0 rfl rfl)
theorem dX56_reckonGreater_1 : decode cX56_reckonGreater 1 = .ok (.iload_n 1, 1) := dk_27 (dk_at dksX56_reckonGreater_0 1 rfl rfl)
theorem dX56_reckonGreater_2 : decode cX56_reckonGreater 2 = .ok (.iload_n 2, 1) := dk_28 (dk_at dksX56_reckonGreater_0 2 rfl rfl)
theorem dX56_reckonGreater_3 : decode cX56_reckonGreater 3 = .ok (.iconst 0, 1) := dk_3 (dk_at dksX56_reckonGreater_0 3 rfl rfl)
theorem dX56_reckonGreater_4 : decode cX56_reckonGreater 4 = .ok (.invokevirtual 100, 3) := dk_182 0 100 (dk_at dksX56_reckonGreater_0 4 rfl rfl)
theorem dX56_reckonGreater_7 : decode cX56_reckonGreater 7 = .ok (.aload_n 0, 1) := dk_42 (dk_at dksX56_reckonGreater_0 7 rfl rfl)
theorem dX56_reckonGreater_8 : decode cX56_reckonGreater 8 = .ok (.getfield 97, 3) := dk_180 0 97 (dk_at dksX56_reckonGreater_0 8 rfl rfl)
theorem dX56_reckonGreater_11 : decode cX56_reckonGreater 11 = .ok (.lstore_n 3, 1) := dk_66 (dk_at dksX56_reckonGreater_0 11 rfl rfl)
theorem dX56_reckonGreater_12 : decode cX56_reckonGreater 12 = .ok (.aload_n 0, 1) := dk_42 (dk_at dksX56_reckonGreater_0 12 rfl rfl)
theorem dX56_reckonGreater_13 : decode cX56_reckonGreater 13 = .ok (.getfield 94, 3) := dk_180 0 94 (dk_at dksX56_reckonGreater_0 13 rfl rfl)
theorem dX56_reckonGreater_16 : decode cX56_reckonGreater 16 = .ok (.lstore 5, 2) := dk_55 5 (dk_at dksX56_reckonGreater_0 16 rfl rfl)
theorem dX56_reckonGreater_18 : decode cX56_reckonGreater 18 = .ok (.aload_n 0, 1) := dk_42 (dk_at dksX56_reckonGreater_0 18 rfl rfl)
theorem dX56_reckonGreater_19 : decode cX56_reckonGreater 19 = .ok (.iload_n 1, 1) := dk_27 (dk_at dksX56_reckonGreater_0 19 rfl rfl)
theorem dX56_reckonGreater_20 : decode cX56_reckonGreater 20 = .ok (.iload_n 2, 1) := dk_28 (dk_at dksX56_reckonGreater_0 20 rfl rfl)
theorem dX56_reckonGreater_21 : decode cX56_reckonGreater 21 = .ok (.iconst 1, 1) := dk_4 (dk_at dksX56_reckonGreater_0 21 rfl rfl)
theorem dX56_reckonGreater_22 : decode cX56_reckonGreater 22 = .ok (.invokevirtual 100, 3) := dk_182 0 100 (dk_at dksX56_reckonGreater_1 0 rfl rfl)
theorem dX56_reckonGreater_25 : decode cX56_reckonGreater 25 = .ok (.lload_n 3, 1) := dk_33 (dk_at dksX56_reckonGreater_1 3 rfl rfl)
theorem dX56_reckonGreater_26 : decode cX56_reckonGreater 26 = .ok (.aload_n 0, 1) := dk_42 (dk_at dksX56_reckonGreater_1 4 rfl rfl)
theorem dX56_reckonGreater_27 : decode cX56_reckonGreater 27 = .ok (.getfield 94, 3) := dk_180 0 94 (dk_at dksX56_reckonGreater_1 5 rfl rfl)
theorem dX56_reckonGreater_30 : decode cX56_reckonGreater 30 = .ok (.lmul, 1) := dk_105 (dk_at dksX56_reckonGreater_1 8 rfl rfl)
theorem dX56_reckonGreater_31 : decode cX56_reckonGreater 31 = .ok (.aload_n 0, 1) := dk_42 (dk_at dksX56_reckonGreater_1 9 rfl rfl)
theorem dX56_reckonGreater_32 : decode cX56_reckonGreater 32 = .ok (.getfield 97, 3) := dk_180 0 97 (dk_at dksX56_reckonGreater_1 10 rfl rfl)
theorem dX56_reckonGreater_35 : decode cX56_reckonGreater 35 = .ok (.lload 5, 2) := dk_22 5 (dk_at dksX56_reckonGreater_1 13 rfl rfl)
theorem dX56_reckonGreater_37 : decode cX56_reckonGreater 37 = .ok (.lmul, 1) := dk_105 (dk_at dksX56_reckonGreater_1 15 rfl rfl)
theorem dX56_reckonGreater_38 : decode cX56_reckonGreater 38 = .ok (.lcmp, 1) := dk_148 (dk_at dksX56_reckonGreater_1 16 rfl rfl)
theorem dX56_reckonGreater_39 : decode cX56_reckonGreater 39 = .ok (.ifCond .le 14, 3) := dk_158 0 14 (dk_at dksX56_reckonGreater_1 17 rfl rfl)
theorem dX56_reckonGreater_42 : decode cX56_reckonGreater 42 = .ok (.aload_n 0, 1) := dk_42 (dk_at dksX56_reckonGreater_1 20 rfl rfl)
theorem dX56_reckonGreater_43 : decode cX56_reckonGreater 43 = .ok (.lload_n 3, 1) := dk_33 (dk_at dksX56_reckonGreater_1 21 rfl rfl)
theorem dX56_reckonGreater_44 : decode cX56_reckonGreater 44 = .ok (.putfield 97, 3) := dk_181 0 97 (dk_at dksX56_reckonGreater_2 0 rfl rfl)
theorem dX56_reckonGreater_47 : decode cX56_reckonGreater 47 = .ok (.aload_n 0, 1) := dk_42 (dk_at dksX56_reckonGreater_2 3 rfl rfl)
theorem dX56_reckonGreater_48 : decode cX56_reckonGreater 48 = .ok (.lload 5, 2) := dk_22 5 (dk_at dksX56_reckonGreater_2 4 rfl rfl)
theorem dX56_reckonGreater_50 : decode cX56_reckonGreater 50 = .ok (.putfield 94, 3) := dk_181 0 94 (dk_at dksX56_reckonGreater_2 6 rfl rfl)
theorem dX56_reckonGreater_53 : decode cX56_reckonGreater 53 = .ok (.return_, 1) := dk_177 (dk_at dksX56_reckonGreater_2 9 rfl rfl)
abbrev cX56_reckon : ByteArray := prog_62_method_10_code
def yX56_reckon : MethodName := ⟨RX56, "reckon", "(III)V"⟩
def dkwX56_reckon_2 : List UInt8 := [154, 0, 13, 42, 180, 0, 94, 22, 4, 101, 167, 0, 5, 22, 4, 181, 0, 97, 177]
abbrev dktX56_reckon_2 : List UInt8 := dkwX56_reckon_2 ++ []
def dkwX56_reckon_1 : List UInt8 := [180, 0, 16, 5, 29, 104, 46, 42, 180, 0, 16, 5, 29, 104, 4, 96, 46, 182, 0, 82, 55, 4, 42, 29]
abbrev dktX56_reckon_1 : List UInt8 := dkwX56_reckon_1 ++ dktX56_reckon_2
def dkwX56_reckon_0 : List UInt8 := [42, 42, 180, 0, 16, 5, 29, 104, 4, 96, 46, 27, 184, 0, 86, 181, 0, 94, 42, 27, 28, 42]
abbrev dktX56_reckon_0 : List UInt8 := dkwX56_reckon_0 ++ dktX56_reckon_1
theorem dksX56_reckon_0 : cX56_reckon.data.toList.drop 0 = dktX56_reckon_0 := by decide +kernel
theorem dksX56_reckon_1 : cX56_reckon.data.toList.drop 22 = dktX56_reckon_1 := dk_seg dksX56_reckon_0 22 rfl rfl
theorem dksX56_reckon_2 : cX56_reckon.data.toList.drop 46 = dktX56_reckon_2 := dk_seg dksX56_reckon_1 24 rfl rfl
theorem dX56_reckon_0 : decode cX56_reckon 0 = .ok (.aload_n 0, 1) := dk_42 (dk_at dksX56_reckon_0 0 rfl rfl)
theorem dX56_reckon_1 : decode cX56_reckon 1 = .ok (.aload_n 0, 1) := dk_42 (dk_at dksX56_reckon_0 1 rfl rfl)
theorem dX56_reckon_2 : decode cX56_reckon 2 = .ok (.getfield 16, 3) := dk_180 0 16 (dk_at dksX56_reckon_0 2 rfl rfl)
theorem dX56_reckon_5 : decode cX56_reckon 5 = .ok (.iconst 2, 1) := dk_5 (dk_at dksX56_reckon_0 5 rfl rfl)
theorem dX56_reckon_6 : decode cX56_reckon 6 = .ok (.iload_n 3, 1) := dk_29 (dk_at dksX56_reckon_0 6 rfl rfl)
theorem dX56_reckon_7 : decode cX56_reckon 7 = .ok (.imul, 1) := dk_104 (dk_at dksX56_reckon_0 7 rfl rfl)
theorem dX56_reckon_8 : decode cX56_reckon 8 = .ok (.iconst 1, 1) := dk_4 (dk_at dksX56_reckon_0 8 rfl rfl)
theorem dX56_reckon_9 : decode cX56_reckon 9 = .ok (.iadd, 1) := dk_96 (dk_at dksX56_reckon_0 9 rfl rfl)
theorem dX56_reckon_10 : decode cX56_reckon 10 = .ok (.iaload, 1) := dk_46 (dk_at dksX56_reckon_0 10 rfl rfl)
theorem dX56_reckon_11 : decode cX56_reckon 11 = .ok (.iload_n 1, 1) := dk_27 (dk_at dksX56_reckon_0 11 rfl rfl)
theorem dX56_reckon_12 : decode cX56_reckon 12 = .ok (.invokestatic 86, 3) := dk_184 0 86 (dk_at dksX56_reckon_0 12 rfl rfl)
theorem dX56_reckon_15 : decode cX56_reckon 15 = .ok (.putfield 94, 3) := dk_181 0 94 (dk_at dksX56_reckon_0 15 rfl rfl)
theorem dX56_reckon_18 : decode cX56_reckon 18 = .ok (.aload_n 0, 1) := dk_42 (dk_at dksX56_reckon_0 18 rfl rfl)
theorem dX56_reckon_19 : decode cX56_reckon 19 = .ok (.iload_n 1, 1) := dk_27 (dk_at dksX56_reckon_0 19 rfl rfl)
theorem dX56_reckon_20 : decode cX56_reckon 20 = .ok (.iload_n 2, 1) := dk_28 (dk_at dksX56_reckon_0 20 rfl rfl)
theorem dX56_reckon_21 : decode cX56_reckon 21 = .ok (.aload_n 0, 1) := dk_42 (dk_at dksX56_reckon_0 21 rfl rfl)
theorem dX56_reckon_22 : decode cX56_reckon 22 = .ok (.getfield 16, 3) := dk_180 0 16 (dk_at dksX56_reckon_1 0 rfl rfl)
theorem dX56_reckon_25 : decode cX56_reckon 25 = .ok (.iconst 2, 1) := dk_5 (dk_at dksX56_reckon_1 3 rfl rfl)
theorem dX56_reckon_26 : decode cX56_reckon 26 = .ok (.iload_n 3, 1) := dk_29 (dk_at dksX56_reckon_1 4 rfl rfl)
theorem dX56_reckon_27 : decode cX56_reckon 27 = .ok (.imul, 1) := dk_104 (dk_at dksX56_reckon_1 5 rfl rfl)
theorem dX56_reckon_28 : decode cX56_reckon 28 = .ok (.iaload, 1) := dk_46 (dk_at dksX56_reckon_1 6 rfl rfl)
theorem dX56_reckon_29 : decode cX56_reckon 29 = .ok (.aload_n 0, 1) := dk_42 (dk_at dksX56_reckon_1 7 rfl rfl)
theorem dX56_reckon_30 : decode cX56_reckon 30 = .ok (.getfield 16, 3) := dk_180 0 16 (dk_at dksX56_reckon_1 8 rfl rfl)
theorem dX56_reckon_33 : decode cX56_reckon 33 = .ok (.iconst 2, 1) := dk_5 (dk_at dksX56_reckon_1 11 rfl rfl)
theorem dX56_reckon_34 : decode cX56_reckon 34 = .ok (.iload_n 3, 1) := dk_29 (dk_at dksX56_reckon_1 12 rfl rfl)
theorem dX56_reckon_35 : decode cX56_reckon 35 = .ok (.imul, 1) := dk_104 (dk_at dksX56_reckon_1 13 rfl rfl)
theorem dX56_reckon_36 : decode cX56_reckon 36 = .ok (.iconst 1, 1) := dk_4 (dk_at dksX56_reckon_1 14 rfl rfl)
theorem dX56_reckon_37 : decode cX56_reckon 37 = .ok (.iadd, 1) := dk_96 (dk_at dksX56_reckon_1 15 rfl rfl)
theorem dX56_reckon_38 : decode cX56_reckon 38 = .ok (.iaload, 1) := dk_46 (dk_at dksX56_reckon_1 16 rfl rfl)
theorem dX56_reckon_39 : decode cX56_reckon 39 = .ok (.invokevirtual 82, 3) := dk_182 0 82 (dk_at dksX56_reckon_1 17 rfl rfl)
theorem dX56_reckon_42 : decode cX56_reckon 42 = .ok (.lstore 4, 2) := dk_55 4 (dk_at dksX56_reckon_1 20 rfl rfl)
theorem dX56_reckon_44 : decode cX56_reckon 44 = .ok (.aload_n 0, 1) := dk_42 (dk_at dksX56_reckon_1 22 rfl rfl)
theorem dX56_reckon_45 : decode cX56_reckon 45 = .ok (.iload_n 3, 1) := dk_29 (dk_at dksX56_reckon_1 23 rfl rfl)
theorem dX56_reckon_46 : decode cX56_reckon 46 = .ok (.ifCond .ne 13, 3) := dk_154 0 13 (dk_at dksX56_reckon_2 0 rfl rfl)
theorem dX56_reckon_49 : decode cX56_reckon 49 = .ok (.aload_n 0, 1) := dk_42 (dk_at dksX56_reckon_2 3 rfl rfl)
theorem dX56_reckon_50 : decode cX56_reckon 50 = .ok (.getfield 94, 3) := dk_180 0 94 (dk_at dksX56_reckon_2 4 rfl rfl)
theorem dX56_reckon_53 : decode cX56_reckon 53 = .ok (.lload 4, 2) := dk_22 4 (dk_at dksX56_reckon_2 7 rfl rfl)
theorem dX56_reckon_55 : decode cX56_reckon 55 = .ok (.lsub, 1) := dk_101 (dk_at dksX56_reckon_2 9 rfl rfl)
theorem dX56_reckon_56 : decode cX56_reckon 56 = .ok (.goto 5, 3) := dk_167 0 5 (dk_at dksX56_reckon_2 10 rfl rfl)
theorem dX56_reckon_59 : decode cX56_reckon 59 = .ok (.lload 4, 2) := dk_22 4 (dk_at dksX56_reckon_2 13 rfl rfl)
theorem dX56_reckon_61 : decode cX56_reckon 61 = .ok (.putfield 97, 3) := dk_181 0 97 (dk_at dksX56_reckon_2 15 rfl rfl)
theorem dX56_reckon_64 : decode cX56_reckon 64 = .ok (.return_, 1) := dk_177 (dk_at dksX56_reckon_2 18 rfl rfl)
abbrev cX56_risk : ByteArray := prog_62_method_13_code
def yX56_risk : MethodName := ⟨RX56, "risk", "(III)J"⟩
def dkwX56_risk_2 : List UInt8 := [182, 0, 100, 42, 180, 0, 97, 42, 180, 0, 94, 29, 184, 0, 90, 173]
abbrev dktX56_risk_2 : List UInt8 := dkwX56_risk_2 ++ []
def dkwX56_risk_1 : List UInt8 := [4, 164, 0, 7, 20, 0, 70, 173, 42, 42, 180, 0, 7, 27, 46, 42, 180, 0, 13, 27, 46, 28]
abbrev dktX56_risk_1 : List UInt8 := dkwX56_risk_1 ++ dktX56_risk_2
def dkwX56_risk_0 : List UInt8 := [42, 180, 0, 104, 153, 0, 24, 27, 155, 0, 20, 27, 42, 180, 0, 72, 162, 0, 12, 28, 155, 0, 8, 28]
abbrev dktX56_risk_0 : List UInt8 := dkwX56_risk_0 ++ dktX56_risk_1
theorem dksX56_risk_0 : cX56_risk.data.toList.drop 0 = dktX56_risk_0 := by decide +kernel
theorem dksX56_risk_1 : cX56_risk.data.toList.drop 24 = dktX56_risk_1 := dk_seg dksX56_risk_0 24 rfl rfl
theorem dksX56_risk_2 : cX56_risk.data.toList.drop 46 = dktX56_risk_2 := dk_seg dksX56_risk_1 22 rfl rfl
theorem dX56_risk_0 : decode cX56_risk 0 = .ok (.aload_n 0, 1) := dk_42 (dk_at dksX56_risk_0 0 rfl rfl)
theorem dX56_risk_1 : decode cX56_risk 1 = .ok (.getfield 104, 3) := dk_180 0 104 (dk_at dksX56_risk_0 1 rfl rfl)
theorem dX56_risk_4 : decode cX56_risk 4 = .ok (.ifCond .eq 24, 3) := dk_153 0 24 (dk_at dksX56_risk_0 4 rfl rfl)
theorem dX56_risk_7 : decode cX56_risk 7 = .ok (.iload_n 1, 1) := dk_27 (dk_at dksX56_risk_0 7 rfl rfl)
theorem dX56_risk_8 : decode cX56_risk 8 = .ok (.ifCond .lt 20, 3) := dk_155 0 20 (dk_at dksX56_risk_0 8 rfl rfl)
theorem dX56_risk_11 : decode cX56_risk 11 = .ok (.iload_n 1, 1) := dk_27 (dk_at dksX56_risk_0 11 rfl rfl)
theorem dX56_risk_12 : decode cX56_risk 12 = .ok (.aload_n 0, 1) := dk_42 (dk_at dksX56_risk_0 12 rfl rfl)
theorem dX56_risk_13 : decode cX56_risk 13 = .ok (.getfield 72, 3) := dk_180 0 72 (dk_at dksX56_risk_0 13 rfl rfl)
theorem dX56_risk_16 : decode cX56_risk 16 = .ok (.if_icmp .ge 12, 3) := dk_162 0 12 (dk_at dksX56_risk_0 16 rfl rfl)
theorem dX56_risk_19 : decode cX56_risk 19 = .ok (.iload_n 2, 1) := dk_28 (dk_at dksX56_risk_0 19 rfl rfl)
theorem dX56_risk_20 : decode cX56_risk 20 = .ok (.ifCond .lt 8, 3) := dk_155 0 8 (dk_at dksX56_risk_0 20 rfl rfl)
theorem dX56_risk_23 : decode cX56_risk 23 = .ok (.iload_n 2, 1) := dk_28 (dk_at dksX56_risk_0 23 rfl rfl)
theorem dX56_risk_24 : decode cX56_risk 24 = .ok (.iconst 1, 1) := dk_4 (dk_at dksX56_risk_1 0 rfl rfl)
theorem dX56_risk_25 : decode cX56_risk 25 = .ok (.if_icmp .le 7, 3) := dk_164 0 7 (dk_at dksX56_risk_1 1 rfl rfl)
theorem dX56_risk_28 : decode cX56_risk 28 = .ok (.ldc2_w 70, 3) := dk_20 0 70 (dk_at dksX56_risk_1 4 rfl rfl)
theorem dX56_risk_31 : decode cX56_risk 31 = .ok (.lreturn, 1) := dk_173 (dk_at dksX56_risk_1 7 rfl rfl)
theorem dX56_risk_32 : decode cX56_risk 32 = .ok (.aload_n 0, 1) := dk_42 (dk_at dksX56_risk_1 8 rfl rfl)
theorem dX56_risk_33 : decode cX56_risk 33 = .ok (.aload_n 0, 1) := dk_42 (dk_at dksX56_risk_1 9 rfl rfl)
theorem dX56_risk_34 : decode cX56_risk 34 = .ok (.getfield 7, 3) := dk_180 0 7 (dk_at dksX56_risk_1 10 rfl rfl)
theorem dX56_risk_37 : decode cX56_risk 37 = .ok (.iload_n 1, 1) := dk_27 (dk_at dksX56_risk_1 13 rfl rfl)
theorem dX56_risk_38 : decode cX56_risk 38 = .ok (.iaload, 1) := dk_46 (dk_at dksX56_risk_1 14 rfl rfl)
theorem dX56_risk_39 : decode cX56_risk 39 = .ok (.aload_n 0, 1) := dk_42 (dk_at dksX56_risk_1 15 rfl rfl)
theorem dX56_risk_40 : decode cX56_risk 40 = .ok (.getfield 13, 3) := dk_180 0 13 (dk_at dksX56_risk_1 16 rfl rfl)
theorem dX56_risk_43 : decode cX56_risk 43 = .ok (.iload_n 1, 1) := dk_27 (dk_at dksX56_risk_1 19 rfl rfl)
theorem dX56_risk_44 : decode cX56_risk 44 = .ok (.iaload, 1) := dk_46 (dk_at dksX56_risk_1 20 rfl rfl)
theorem dX56_risk_45 : decode cX56_risk 45 = .ok (.iload_n 2, 1) := dk_28 (dk_at dksX56_risk_1 21 rfl rfl)
theorem dX56_risk_46 : decode cX56_risk 46 = .ok (.invokevirtual 100, 3) := dk_182 0 100 (dk_at dksX56_risk_2 0 rfl rfl)
theorem dX56_risk_49 : decode cX56_risk 49 = .ok (.aload_n 0, 1) := dk_42 (dk_at dksX56_risk_2 3 rfl rfl)
theorem dX56_risk_50 : decode cX56_risk 50 = .ok (.getfield 97, 3) := dk_180 0 97 (dk_at dksX56_risk_2 4 rfl rfl)
theorem dX56_risk_53 : decode cX56_risk 53 = .ok (.aload_n 0, 1) := dk_42 (dk_at dksX56_risk_2 7 rfl rfl)
theorem dX56_risk_54 : decode cX56_risk 54 = .ok (.getfield 94, 3) := dk_180 0 94 (dk_at dksX56_risk_2 8 rfl rfl)
theorem dX56_risk_57 : decode cX56_risk 57 = .ok (.iload_n 3, 1) := dk_29 (dk_at dksX56_risk_2 11 rfl rfl)
theorem dX56_risk_58 : decode cX56_risk 58 = .ok (.invokestatic 90, 3) := dk_184 0 90 (dk_at dksX56_risk_2 12 rfl rfl)
theorem dX56_risk_61 : decode cX56_risk 61 = .ok (.lreturn, 1) := dk_173 (dk_at dksX56_risk_2 15 rfl rfl)
abbrev cX56_repeats : ByteArray := prog_62_method_20_code
def yX56_repeats : MethodName := ⟨RX56, "repeats", "(I)I"⟩
def dkwX56_repeats_5 : List UInt8 := [61, 132, 3, 1, 167, 255, 148, 28, 172]
abbrev dktX56_repeats_5 : List UInt8 := dkwX56_repeats_5 ++ []
def dkwX56_repeats_4 : List UInt8 := [167, 0, 4, 3, 54, 4, 132, 5, 1, 167, 255, 183, 21, 4, 153, 0, 9, 28, 4, 96, 167, 0, 4, 28]
abbrev dktX56_repeats_4 : List UInt8 := dkwX56_repeats_4 ++ dktX56_repeats_5
def dkwX56_repeats_3 : List UInt8 := [160, 0, 25, 42, 180, 0, 29, 21, 6, 47, 42, 180, 0, 29, 21, 7, 47, 148, 154, 0, 7, 4]
abbrev dktX56_repeats_3 : List UInt8 := dkwX56_repeats_3 ++ dktX56_repeats_4
def dkwX56_repeats_2 : List UInt8 := [21, 5, 96, 54, 7, 21, 4, 154, 0, 38, 42, 180, 0, 26, 21, 6, 46, 42, 180, 0, 26, 21, 7, 46]
abbrev dktX56_repeats_2 : List UInt8 := dkwX56_repeats_2 ++ dktX56_repeats_3
def dkwX56_repeats_1 : List UInt8 := [3, 54, 4, 3, 54, 5, 21, 5, 29, 162, 0, 73, 16, 30, 27, 104, 29, 96, 54, 6, 16, 30, 27, 104]
abbrev dktX56_repeats_1 : List UInt8 := dkwX56_repeats_1 ++ dktX56_repeats_2
def dkwX56_repeats_0 : List UInt8 := [42, 27, 182, 0, 121, 154, 0, 5, 2, 172, 3, 61, 3, 62, 29, 42, 180, 0, 23, 27, 46, 162, 0, 104]
abbrev dktX56_repeats_0 : List UInt8 := dkwX56_repeats_0 ++ dktX56_repeats_1
theorem dksX56_repeats_0 : cX56_repeats.data.toList.drop 0 = dktX56_repeats_0 := by decide +kernel
theorem dksX56_repeats_1 : cX56_repeats.data.toList.drop 24 = dktX56_repeats_1 := dk_seg dksX56_repeats_0 24 rfl rfl
theorem dksX56_repeats_2 : cX56_repeats.data.toList.drop 48 = dktX56_repeats_2 := dk_seg dksX56_repeats_1 24 rfl rfl
theorem dksX56_repeats_3 : cX56_repeats.data.toList.drop 72 = dktX56_repeats_3 := dk_seg dksX56_repeats_2 24 rfl rfl
theorem dksX56_repeats_4 : cX56_repeats.data.toList.drop 94 = dktX56_repeats_4 := dk_seg dksX56_repeats_3 22 rfl rfl
theorem dksX56_repeats_5 : cX56_repeats.data.toList.drop 118 = dktX56_repeats_5 := dk_seg dksX56_repeats_4 24 rfl rfl
theorem dX56_repeats_0 : decode cX56_repeats 0 = .ok (.aload_n 0, 1) := dk_42 (dk_at dksX56_repeats_0 0 rfl rfl)
theorem dX56_repeats_1 : decode cX56_repeats 1 = .ok (.iload_n 1, 1) := dk_27 (dk_at dksX56_repeats_0 1 rfl rfl)
theorem dX56_repeats_2 : decode cX56_repeats 2 = .ok (.invokevirtual 121, 3) := dk_182 0 121 (dk_at dksX56_repeats_0 2 rfl rfl)
theorem dX56_repeats_5 : decode cX56_repeats 5 = .ok (.ifCond .ne 5, 3) := dk_154 0 5 (dk_at dksX56_repeats_0 5 rfl rfl)
theorem dX56_repeats_8 : decode cX56_repeats 8 = .ok (.iconst (-1), 1) := dk_2 (dk_at dksX56_repeats_0 8 rfl rfl)
theorem dX56_repeats_9 : decode cX56_repeats 9 = .ok (.ireturn, 1) := dk_172 (dk_at dksX56_repeats_0 9 rfl rfl)
theorem dX56_repeats_10 : decode cX56_repeats 10 = .ok (.iconst 0, 1) := dk_3 (dk_at dksX56_repeats_0 10 rfl rfl)
theorem dX56_repeats_11 : decode cX56_repeats 11 = .ok (.istore_n 2, 1) := dk_61 (dk_at dksX56_repeats_0 11 rfl rfl)
theorem dX56_repeats_12 : decode cX56_repeats 12 = .ok (.iconst 0, 1) := dk_3 (dk_at dksX56_repeats_0 12 rfl rfl)
theorem dX56_repeats_13 : decode cX56_repeats 13 = .ok (.istore_n 3, 1) := dk_62 (dk_at dksX56_repeats_0 13 rfl rfl)
theorem dX56_repeats_14 : decode cX56_repeats 14 = .ok (.iload_n 3, 1) := dk_29 (dk_at dksX56_repeats_0 14 rfl rfl)
theorem dX56_repeats_15 : decode cX56_repeats 15 = .ok (.aload_n 0, 1) := dk_42 (dk_at dksX56_repeats_0 15 rfl rfl)
theorem dX56_repeats_16 : decode cX56_repeats 16 = .ok (.getfield 23, 3) := dk_180 0 23 (dk_at dksX56_repeats_0 16 rfl rfl)
theorem dX56_repeats_19 : decode cX56_repeats 19 = .ok (.iload_n 1, 1) := dk_27 (dk_at dksX56_repeats_0 19 rfl rfl)
theorem dX56_repeats_20 : decode cX56_repeats 20 = .ok (.iaload, 1) := dk_46 (dk_at dksX56_repeats_0 20 rfl rfl)
theorem dX56_repeats_21 : decode cX56_repeats 21 = .ok (.if_icmp .ge 104, 3) := dk_162 0 104 (dk_at dksX56_repeats_0 21 rfl rfl)
theorem dX56_repeats_24 : decode cX56_repeats 24 = .ok (.iconst 0, 1) := dk_3 (dk_at dksX56_repeats_1 0 rfl rfl)
theorem dX56_repeats_25 : decode cX56_repeats 25 = .ok (.istore 4, 2) := dk_54 4 (dk_at dksX56_repeats_1 1 rfl rfl)
theorem dX56_repeats_27 : decode cX56_repeats 27 = .ok (.iconst 0, 1) := dk_3 (dk_at dksX56_repeats_1 3 rfl rfl)
theorem dX56_repeats_28 : decode cX56_repeats 28 = .ok (.istore 5, 2) := dk_54 5 (dk_at dksX56_repeats_1 4 rfl rfl)
theorem dX56_repeats_30 : decode cX56_repeats 30 = .ok (.iload 5, 2) := dk_21 5 (dk_at dksX56_repeats_1 6 rfl rfl)
theorem dX56_repeats_32 : decode cX56_repeats 32 = .ok (.iload_n 3, 1) := dk_29 (dk_at dksX56_repeats_1 8 rfl rfl)
theorem dX56_repeats_33 : decode cX56_repeats 33 = .ok (.if_icmp .ge 73, 3) := dk_162 0 73 (dk_at dksX56_repeats_1 9 rfl rfl)
theorem dX56_repeats_36 : decode cX56_repeats 36 = .ok (.bipush 30, 2) := dk_16 30 (dk_at dksX56_repeats_1 12 rfl rfl)
theorem dX56_repeats_38 : decode cX56_repeats 38 = .ok (.iload_n 1, 1) := dk_27 (dk_at dksX56_repeats_1 14 rfl rfl)
theorem dX56_repeats_39 : decode cX56_repeats 39 = .ok (.imul, 1) := dk_104 (dk_at dksX56_repeats_1 15 rfl rfl)
theorem dX56_repeats_40 : decode cX56_repeats 40 = .ok (.iload_n 3, 1) := dk_29 (dk_at dksX56_repeats_1 16 rfl rfl)
theorem dX56_repeats_41 : decode cX56_repeats 41 = .ok (.iadd, 1) := dk_96 (dk_at dksX56_repeats_1 17 rfl rfl)
theorem dX56_repeats_42 : decode cX56_repeats 42 = .ok (.istore 6, 2) := dk_54 6 (dk_at dksX56_repeats_1 18 rfl rfl)
theorem dX56_repeats_44 : decode cX56_repeats 44 = .ok (.bipush 30, 2) := dk_16 30 (dk_at dksX56_repeats_1 20 rfl rfl)
theorem dX56_repeats_46 : decode cX56_repeats 46 = .ok (.iload_n 1, 1) := dk_27 (dk_at dksX56_repeats_1 22 rfl rfl)
theorem dX56_repeats_47 : decode cX56_repeats 47 = .ok (.imul, 1) := dk_104 (dk_at dksX56_repeats_1 23 rfl rfl)
theorem dX56_repeats_48 : decode cX56_repeats 48 = .ok (.iload 5, 2) := dk_21 5 (dk_at dksX56_repeats_2 0 rfl rfl)
theorem dX56_repeats_50 : decode cX56_repeats 50 = .ok (.iadd, 1) := dk_96 (dk_at dksX56_repeats_2 2 rfl rfl)
theorem dX56_repeats_51 : decode cX56_repeats 51 = .ok (.istore 7, 2) := dk_54 7 (dk_at dksX56_repeats_2 3 rfl rfl)
theorem dX56_repeats_53 : decode cX56_repeats 53 = .ok (.iload 4, 2) := dk_21 4 (dk_at dksX56_repeats_2 5 rfl rfl)
theorem dX56_repeats_55 : decode cX56_repeats 55 = .ok (.ifCond .ne 38, 3) := dk_154 0 38 (dk_at dksX56_repeats_2 7 rfl rfl)
theorem dX56_repeats_58 : decode cX56_repeats 58 = .ok (.aload_n 0, 1) := dk_42 (dk_at dksX56_repeats_2 10 rfl rfl)
theorem dX56_repeats_59 : decode cX56_repeats 59 = .ok (.getfield 26, 3) := dk_180 0 26 (dk_at dksX56_repeats_2 11 rfl rfl)
theorem dX56_repeats_62 : decode cX56_repeats 62 = .ok (.iload 6, 2) := dk_21 6 (dk_at dksX56_repeats_2 14 rfl rfl)
theorem dX56_repeats_64 : decode cX56_repeats 64 = .ok (.iaload, 1) := dk_46 (dk_at dksX56_repeats_2 16 rfl rfl)
theorem dX56_repeats_65 : decode cX56_repeats 65 = .ok (.aload_n 0, 1) := dk_42 (dk_at dksX56_repeats_2 17 rfl rfl)
theorem dX56_repeats_66 : decode cX56_repeats 66 = .ok (.getfield 26, 3) := dk_180 0 26 (dk_at dksX56_repeats_2 18 rfl rfl)
theorem dX56_repeats_69 : decode cX56_repeats 69 = .ok (.iload 7, 2) := dk_21 7 (dk_at dksX56_repeats_2 21 rfl rfl)
theorem dX56_repeats_71 : decode cX56_repeats 71 = .ok (.iaload, 1) := dk_46 (dk_at dksX56_repeats_2 23 rfl rfl)
theorem dX56_repeats_72 : decode cX56_repeats 72 = .ok (.if_icmp .ne 25, 3) := dk_160 0 25 (dk_at dksX56_repeats_3 0 rfl rfl)
theorem dX56_repeats_75 : decode cX56_repeats 75 = .ok (.aload_n 0, 1) := dk_42 (dk_at dksX56_repeats_3 3 rfl rfl)
theorem dX56_repeats_76 : decode cX56_repeats 76 = .ok (.getfield 29, 3) := dk_180 0 29 (dk_at dksX56_repeats_3 4 rfl rfl)
theorem dX56_repeats_79 : decode cX56_repeats 79 = .ok (.iload 6, 2) := dk_21 6 (dk_at dksX56_repeats_3 7 rfl rfl)
theorem dX56_repeats_81 : decode cX56_repeats 81 = .ok (.laload, 1) := dk_47 (dk_at dksX56_repeats_3 9 rfl rfl)
theorem dX56_repeats_82 : decode cX56_repeats 82 = .ok (.aload_n 0, 1) := dk_42 (dk_at dksX56_repeats_3 10 rfl rfl)
theorem dX56_repeats_83 : decode cX56_repeats 83 = .ok (.getfield 29, 3) := dk_180 0 29 (dk_at dksX56_repeats_3 11 rfl rfl)
theorem dX56_repeats_86 : decode cX56_repeats 86 = .ok (.iload 7, 2) := dk_21 7 (dk_at dksX56_repeats_3 14 rfl rfl)
theorem dX56_repeats_88 : decode cX56_repeats 88 = .ok (.laload, 1) := dk_47 (dk_at dksX56_repeats_3 16 rfl rfl)
theorem dX56_repeats_89 : decode cX56_repeats 89 = .ok (.lcmp, 1) := dk_148 (dk_at dksX56_repeats_3 17 rfl rfl)
theorem dX56_repeats_90 : decode cX56_repeats 90 = .ok (.ifCond .ne 7, 3) := dk_154 0 7 (dk_at dksX56_repeats_3 18 rfl rfl)
theorem dX56_repeats_93 : decode cX56_repeats 93 = .ok (.iconst 1, 1) := dk_4 (dk_at dksX56_repeats_3 21 rfl rfl)
theorem dX56_repeats_94 : decode cX56_repeats 94 = .ok (.goto 4, 3) := dk_167 0 4 (dk_at dksX56_repeats_4 0 rfl rfl)
theorem dX56_repeats_97 : decode cX56_repeats 97 = .ok (.iconst 0, 1) := dk_3 (dk_at dksX56_repeats_4 3 rfl rfl)
theorem dX56_repeats_98 : decode cX56_repeats 98 = .ok (.istore 4, 2) := dk_54 4 (dk_at dksX56_repeats_4 4 rfl rfl)
theorem dX56_repeats_100 : decode cX56_repeats 100 = .ok (.iinc 5 1, 3) := dk_132 5 1 (dk_at dksX56_repeats_4 6 rfl rfl)
theorem dX56_repeats_103 : decode cX56_repeats 103 = .ok (.goto (-73), 3) := dk_167 255 183 (dk_at dksX56_repeats_4 9 rfl rfl)
theorem dX56_repeats_106 : decode cX56_repeats 106 = .ok (.iload 4, 2) := dk_21 4 (dk_at dksX56_repeats_4 12 rfl rfl)
theorem dX56_repeats_108 : decode cX56_repeats 108 = .ok (.ifCond .eq 9, 3) := dk_153 0 9 (dk_at dksX56_repeats_4 14 rfl rfl)
theorem dX56_repeats_111 : decode cX56_repeats 111 = .ok (.iload_n 2, 1) := dk_28 (dk_at dksX56_repeats_4 17 rfl rfl)
theorem dX56_repeats_112 : decode cX56_repeats 112 = .ok (.iconst 1, 1) := dk_4 (dk_at dksX56_repeats_4 18 rfl rfl)
theorem dX56_repeats_113 : decode cX56_repeats 113 = .ok (.iadd, 1) := dk_96 (dk_at dksX56_repeats_4 19 rfl rfl)
theorem dX56_repeats_114 : decode cX56_repeats 114 = .ok (.goto 4, 3) := dk_167 0 4 (dk_at dksX56_repeats_4 20 rfl rfl)
theorem dX56_repeats_117 : decode cX56_repeats 117 = .ok (.iload_n 2, 1) := dk_28 (dk_at dksX56_repeats_4 23 rfl rfl)
theorem dX56_repeats_118 : decode cX56_repeats 118 = .ok (.istore_n 2, 1) := dk_61 (dk_at dksX56_repeats_5 0 rfl rfl)
theorem dX56_repeats_119 : decode cX56_repeats 119 = .ok (.iinc 3 1, 3) := dk_132 3 1 (dk_at dksX56_repeats_5 1 rfl rfl)
theorem dX56_repeats_122 : decode cX56_repeats 122 = .ok (.goto (-108), 3) := dk_167 255 148 (dk_at dksX56_repeats_5 4 rfl rfl)
theorem dX56_repeats_125 : decode cX56_repeats 125 = .ok (.iload_n 2, 1) := dk_28 (dk_at dksX56_repeats_5 7 rfl rfl)
theorem dX56_repeats_126 : decode cX56_repeats 126 = .ok (.ireturn, 1) := dk_172 (dk_at dksX56_repeats_5 8 rfl rfl)
abbrev cX56_step : ByteArray := prog_62_method_21_code
def yX56_step : MethodName := ⟨RX56, "step", "(JJJ)Z"⟩
def dkwX56_step_5 : List UInt8 := [96, 181, 0, 135, 4, 172]
abbrev dktX56_step_5 : List UInt8 := dkwX56_step_5 ++ []
def dkwX56_step_4 : List UInt8 := [180, 0, 135, 33, 136, 79, 42, 180, 0, 53, 42, 180, 0, 135, 22, 5, 136, 79, 42, 89, 180, 0, 135, 4]
abbrev dktX56_step_4 : List UInt8 := dkwX56_step_4 ++ dktX56_step_5
def dkwX56_step_3 : List UInt8 := [33, 105, 148, 157, 0, 5, 3, 172, 42, 180, 0, 47, 42, 180, 0, 135, 31, 136, 79, 42, 180, 0, 50, 42]
abbrev dktX56_step_3 : List UInt8 := dkwX56_step_3 ++ dktX56_step_4
def dkwX56_step_2 : List UInt8 := [180, 0, 50, 42, 180, 0, 135, 4, 100, 46, 133, 105, 42, 180, 0, 47, 42, 180, 0, 135, 4, 100, 46, 133]
abbrev dktX56_step_2 : List UInt8 := dkwX56_step_2 ++ dktX56_step_3
def dkwX56_step_1 : List UInt8 := [155, 0, 12, 22, 5, 20, 0, 140, 148, 158, 0, 5, 3, 172, 42, 180, 0, 135, 158, 0, 37, 31, 42]
abbrev dktX56_step_1 : List UInt8 := dkwX56_step_1 ++ dktX56_step_2
def dkwX56_step_0 : List UInt8 := [42, 180, 0, 135, 16, 12, 159, 0, 30, 31, 33, 20, 0, 138, 184, 0, 78, 153, 0, 19, 22, 5, 9, 148]
abbrev dktX56_step_0 : List UInt8 := dkwX56_step_0 ++ dktX56_step_1
theorem dksX56_step_0 : cX56_step.data.toList.drop 0 = dktX56_step_0 := by decide +kernel
theorem dksX56_step_1 : cX56_step.data.toList.drop 24 = dktX56_step_1 := dk_seg dksX56_step_0 24 rfl rfl
theorem dksX56_step_2 : cX56_step.data.toList.drop 47 = dktX56_step_2 := dk_seg dksX56_step_1 23 rfl rfl
theorem dksX56_step_3 : cX56_step.data.toList.drop 71 = dktX56_step_3 := dk_seg dksX56_step_2 24 rfl rfl
theorem dksX56_step_4 : cX56_step.data.toList.drop 95 = dktX56_step_4 := dk_seg dksX56_step_3 24 rfl rfl
theorem dksX56_step_5 : cX56_step.data.toList.drop 119 = dktX56_step_5 := dk_seg dksX56_step_4 24 rfl rfl
theorem dX56_step_0 : decode cX56_step 0 = .ok (.aload_n 0, 1) := dk_42 (dk_at dksX56_step_0 0 rfl rfl)
theorem dX56_step_1 : decode cX56_step 1 = .ok (.getfield 135, 3) := dk_180 0 135 (dk_at dksX56_step_0 1 rfl rfl)
theorem dX56_step_4 : decode cX56_step 4 = .ok (.bipush 12, 2) := dk_16 12 (dk_at dksX56_step_0 4 rfl rfl)
theorem dX56_step_6 : decode cX56_step 6 = .ok (.if_icmp .eq 30, 3) := dk_159 0 30 (dk_at dksX56_step_0 6 rfl rfl)
theorem dX56_step_9 : decode cX56_step 9 = .ok (.lload_n 1, 1) := dk_31 (dk_at dksX56_step_0 9 rfl rfl)
theorem dX56_step_10 : decode cX56_step 10 = .ok (.lload_n 3, 1) := dk_33 (dk_at dksX56_step_0 10 rfl rfl)
theorem dX56_step_11 : decode cX56_step 11 = .ok (.ldc2_w 138, 3) := dk_20 0 138 (dk_at dksX56_step_0 11 rfl rfl)
theorem dX56_step_14 : decode cX56_step 14 = .ok (.invokestatic 78, 3) := dk_184 0 78 (dk_at dksX56_step_0 14 rfl rfl)
theorem dX56_step_17 : decode cX56_step 17 = .ok (.ifCond .eq 19, 3) := dk_153 0 19 (dk_at dksX56_step_0 17 rfl rfl)
theorem dX56_step_20 : decode cX56_step 20 = .ok (.lload 5, 2) := dk_22 5 (dk_at dksX56_step_0 20 rfl rfl)
theorem dX56_step_22 : decode cX56_step 22 = .ok (.lconst 0, 1) := dk_9 (dk_at dksX56_step_0 22 rfl rfl)
theorem dX56_step_23 : decode cX56_step 23 = .ok (.lcmp, 1) := dk_148 (dk_at dksX56_step_0 23 rfl rfl)
theorem dX56_step_24 : decode cX56_step 24 = .ok (.ifCond .lt 12, 3) := dk_155 0 12 (dk_at dksX56_step_1 0 rfl rfl)
theorem dX56_step_27 : decode cX56_step 27 = .ok (.lload 5, 2) := dk_22 5 (dk_at dksX56_step_1 3 rfl rfl)
theorem dX56_step_29 : decode cX56_step 29 = .ok (.ldc2_w 140, 3) := dk_20 0 140 (dk_at dksX56_step_1 5 rfl rfl)
theorem dX56_step_32 : decode cX56_step 32 = .ok (.lcmp, 1) := dk_148 (dk_at dksX56_step_1 8 rfl rfl)
theorem dX56_step_33 : decode cX56_step 33 = .ok (.ifCond .le 5, 3) := dk_158 0 5 (dk_at dksX56_step_1 9 rfl rfl)
theorem dX56_step_36 : decode cX56_step 36 = .ok (.iconst 0, 1) := dk_3 (dk_at dksX56_step_1 12 rfl rfl)
theorem dX56_step_37 : decode cX56_step 37 = .ok (.ireturn, 1) := dk_172 (dk_at dksX56_step_1 13 rfl rfl)
theorem dX56_step_38 : decode cX56_step 38 = .ok (.aload_n 0, 1) := dk_42 (dk_at dksX56_step_1 14 rfl rfl)
theorem dX56_step_39 : decode cX56_step 39 = .ok (.getfield 135, 3) := dk_180 0 135 (dk_at dksX56_step_1 15 rfl rfl)
theorem dX56_step_42 : decode cX56_step 42 = .ok (.ifCond .le 37, 3) := dk_158 0 37 (dk_at dksX56_step_1 18 rfl rfl)
theorem dX56_step_45 : decode cX56_step 45 = .ok (.lload_n 1, 1) := dk_31 (dk_at dksX56_step_1 21 rfl rfl)
theorem dX56_step_46 : decode cX56_step 46 = .ok (.aload_n 0, 1) := dk_42 (dk_at dksX56_step_1 22 rfl rfl)
theorem dX56_step_47 : decode cX56_step 47 = .ok (.getfield 50, 3) := dk_180 0 50 (dk_at dksX56_step_2 0 rfl rfl)
theorem dX56_step_50 : decode cX56_step 50 = .ok (.aload_n 0, 1) := dk_42 (dk_at dksX56_step_2 3 rfl rfl)
theorem dX56_step_51 : decode cX56_step 51 = .ok (.getfield 135, 3) := dk_180 0 135 (dk_at dksX56_step_2 4 rfl rfl)
theorem dX56_step_54 : decode cX56_step 54 = .ok (.iconst 1, 1) := dk_4 (dk_at dksX56_step_2 7 rfl rfl)
theorem dX56_step_55 : decode cX56_step 55 = .ok (.isub, 1) := dk_100 (dk_at dksX56_step_2 8 rfl rfl)
theorem dX56_step_56 : decode cX56_step 56 = .ok (.iaload, 1) := dk_46 (dk_at dksX56_step_2 9 rfl rfl)
theorem dX56_step_57 : decode cX56_step 57 = .ok (.i2l, 1) := dk_133 (dk_at dksX56_step_2 10 rfl rfl)
theorem dX56_step_58 : decode cX56_step 58 = .ok (.lmul, 1) := dk_105 (dk_at dksX56_step_2 11 rfl rfl)
theorem dX56_step_59 : decode cX56_step 59 = .ok (.aload_n 0, 1) := dk_42 (dk_at dksX56_step_2 12 rfl rfl)
theorem dX56_step_60 : decode cX56_step 60 = .ok (.getfield 47, 3) := dk_180 0 47 (dk_at dksX56_step_2 13 rfl rfl)
theorem dX56_step_63 : decode cX56_step 63 = .ok (.aload_n 0, 1) := dk_42 (dk_at dksX56_step_2 16 rfl rfl)
theorem dX56_step_64 : decode cX56_step 64 = .ok (.getfield 135, 3) := dk_180 0 135 (dk_at dksX56_step_2 17 rfl rfl)
theorem dX56_step_67 : decode cX56_step 67 = .ok (.iconst 1, 1) := dk_4 (dk_at dksX56_step_2 20 rfl rfl)
theorem dX56_step_68 : decode cX56_step 68 = .ok (.isub, 1) := dk_100 (dk_at dksX56_step_2 21 rfl rfl)
theorem dX56_step_69 : decode cX56_step 69 = .ok (.iaload, 1) := dk_46 (dk_at dksX56_step_2 22 rfl rfl)
theorem dX56_step_70 : decode cX56_step 70 = .ok (.i2l, 1) := dk_133 (dk_at dksX56_step_2 23 rfl rfl)
theorem dX56_step_71 : decode cX56_step 71 = .ok (.lload_n 3, 1) := dk_33 (dk_at dksX56_step_3 0 rfl rfl)
theorem dX56_step_72 : decode cX56_step 72 = .ok (.lmul, 1) := dk_105 (dk_at dksX56_step_3 1 rfl rfl)
theorem dX56_step_73 : decode cX56_step 73 = .ok (.lcmp, 1) := dk_148 (dk_at dksX56_step_3 2 rfl rfl)
theorem dX56_step_74 : decode cX56_step 74 = .ok (.ifCond .gt 5, 3) := dk_157 0 5 (dk_at dksX56_step_3 3 rfl rfl)
theorem dX56_step_77 : decode cX56_step 77 = .ok (.iconst 0, 1) := dk_3 (dk_at dksX56_step_3 6 rfl rfl)
theorem dX56_step_78 : decode cX56_step 78 = .ok (.ireturn, 1) := dk_172 (dk_at dksX56_step_3 7 rfl rfl)
theorem dX56_step_79 : decode cX56_step 79 = .ok (.aload_n 0, 1) := dk_42 (dk_at dksX56_step_3 8 rfl rfl)
theorem dX56_step_80 : decode cX56_step 80 = .ok (.getfield 47, 3) := dk_180 0 47 (dk_at dksX56_step_3 9 rfl rfl)
theorem dX56_step_83 : decode cX56_step 83 = .ok (.aload_n 0, 1) := dk_42 (dk_at dksX56_step_3 12 rfl rfl)
theorem dX56_step_84 : decode cX56_step 84 = .ok (.getfield 135, 3) := dk_180 0 135 (dk_at dksX56_step_3 13 rfl rfl)
theorem dX56_step_87 : decode cX56_step 87 = .ok (.lload_n 1, 1) := dk_31 (dk_at dksX56_step_3 16 rfl rfl)
theorem dX56_step_88 : decode cX56_step 88 = .ok (.l2i, 1) := dk_136 (dk_at dksX56_step_3 17 rfl rfl)
theorem dX56_step_89 : decode cX56_step 89 = .ok (.iastore, 1) := dk_79 (dk_at dksX56_step_3 18 rfl rfl)
theorem dX56_step_90 : decode cX56_step 90 = .ok (.aload_n 0, 1) := dk_42 (dk_at dksX56_step_3 19 rfl rfl)
theorem dX56_step_91 : decode cX56_step 91 = .ok (.getfield 50, 3) := dk_180 0 50 (dk_at dksX56_step_3 20 rfl rfl)
theorem dX56_step_94 : decode cX56_step 94 = .ok (.aload_n 0, 1) := dk_42 (dk_at dksX56_step_3 23 rfl rfl)
theorem dX56_step_95 : decode cX56_step 95 = .ok (.getfield 135, 3) := dk_180 0 135 (dk_at dksX56_step_4 0 rfl rfl)
theorem dX56_step_98 : decode cX56_step 98 = .ok (.lload_n 3, 1) := dk_33 (dk_at dksX56_step_4 3 rfl rfl)
theorem dX56_step_99 : decode cX56_step 99 = .ok (.l2i, 1) := dk_136 (dk_at dksX56_step_4 4 rfl rfl)
theorem dX56_step_100 : decode cX56_step 100 = .ok (.iastore, 1) := dk_79 (dk_at dksX56_step_4 5 rfl rfl)
theorem dX56_step_101 : decode cX56_step 101 = .ok (.aload_n 0, 1) := dk_42 (dk_at dksX56_step_4 6 rfl rfl)
theorem dX56_step_102 : decode cX56_step 102 = .ok (.getfield 53, 3) := dk_180 0 53 (dk_at dksX56_step_4 7 rfl rfl)
theorem dX56_step_105 : decode cX56_step 105 = .ok (.aload_n 0, 1) := dk_42 (dk_at dksX56_step_4 10 rfl rfl)
theorem dX56_step_106 : decode cX56_step 106 = .ok (.getfield 135, 3) := dk_180 0 135 (dk_at dksX56_step_4 11 rfl rfl)
theorem dX56_step_109 : decode cX56_step 109 = .ok (.lload 5, 2) := dk_22 5 (dk_at dksX56_step_4 14 rfl rfl)
theorem dX56_step_111 : decode cX56_step 111 = .ok (.l2i, 1) := dk_136 (dk_at dksX56_step_4 16 rfl rfl)
theorem dX56_step_112 : decode cX56_step 112 = .ok (.iastore, 1) := dk_79 (dk_at dksX56_step_4 17 rfl rfl)
theorem dX56_step_113 : decode cX56_step 113 = .ok (.aload_n 0, 1) := dk_42 (dk_at dksX56_step_4 18 rfl rfl)
theorem dX56_step_114 : decode cX56_step 114 = .ok (.dup, 1) := dk_89 (dk_at dksX56_step_4 19 rfl rfl)
theorem dX56_step_115 : decode cX56_step 115 = .ok (.getfield 135, 3) := dk_180 0 135 (dk_at dksX56_step_4 20 rfl rfl)
theorem dX56_step_118 : decode cX56_step 118 = .ok (.iconst 1, 1) := dk_4 (dk_at dksX56_step_4 23 rfl rfl)
theorem dX56_step_119 : decode cX56_step 119 = .ok (.iadd, 1) := dk_96 (dk_at dksX56_step_5 0 rfl rfl)
theorem dX56_step_120 : decode cX56_step 120 = .ok (.putfield 135, 3) := dk_181 0 135 (dk_at dksX56_step_5 1 rfl rfl)
theorem dX56_step_123 : decode cX56_step 123 = .ok (.iconst 1, 1) := dk_4 (dk_at dksX56_step_5 4 rfl rfl)
theorem dX56_step_124 : decode cX56_step 124 = .ok (.ireturn, 1) := dk_172 (dk_at dksX56_step_5 5 rfl rfl)
abbrev cX56_third : ByteArray := prog_62_method_27_code
def yX56_third : MethodName := ⟨RX56, "third", "(IJJ)I"⟩
def dkwX56_third_3 : List UInt8 := [182, 0, 152, 161, 0, 7, 4, 167, 0, 4, 3, 172]
abbrev dktX56_third_3 : List UInt8 := dkwX56_third_3 ++ []
def dkwX56_third_2 : List UInt8 := [42, 32, 22, 4, 182, 0, 152, 42, 42, 27, 3, 2, 182, 0, 127, 42, 27, 2, 2, 182, 0, 127]
abbrev dktX56_third_2 : List UInt8 := dkwX56_third_2 ++ dktX56_third_3
def dkwX56_third_1 : List UInt8 := [27, 46, 154, 0, 5, 2, 172, 42, 180, 0, 32, 27, 32, 136, 79, 42, 180, 0, 35, 27, 22, 4, 136, 79]
abbrev dktX56_third_1 : List UInt8 := dkwX56_third_1 ++ dktX56_third_2
def dkwX56_third_0 : List UInt8 := [42, 27, 182, 0, 121, 153, 0, 24, 32, 22, 4, 20, 0, 138, 184, 0, 78, 153, 0, 12, 42, 180, 0, 23]
abbrev dktX56_third_0 : List UInt8 := dkwX56_third_0 ++ dktX56_third_1
theorem dksX56_third_0 : cX56_third.data.toList.drop 0 = dktX56_third_0 := by decide +kernel
theorem dksX56_third_1 : cX56_third.data.toList.drop 24 = dktX56_third_1 := dk_seg dksX56_third_0 24 rfl rfl
theorem dksX56_third_2 : cX56_third.data.toList.drop 48 = dktX56_third_2 := dk_seg dksX56_third_1 24 rfl rfl
theorem dksX56_third_3 : cX56_third.data.toList.drop 70 = dktX56_third_3 := dk_seg dksX56_third_2 22 rfl rfl
theorem dX56_third_0 : decode cX56_third 0 = .ok (.aload_n 0, 1) := dk_42 (dk_at dksX56_third_0 0 rfl rfl)
theorem dX56_third_1 : decode cX56_third 1 = .ok (.iload_n 1, 1) := dk_27 (dk_at dksX56_third_0 1 rfl rfl)
theorem dX56_third_2 : decode cX56_third 2 = .ok (.invokevirtual 121, 3) := dk_182 0 121 (dk_at dksX56_third_0 2 rfl rfl)
theorem dX56_third_5 : decode cX56_third 5 = .ok (.ifCond .eq 24, 3) := dk_153 0 24 (dk_at dksX56_third_0 5 rfl rfl)
theorem dX56_third_8 : decode cX56_third 8 = .ok (.lload_n 2, 1) := dk_32 (dk_at dksX56_third_0 8 rfl rfl)
theorem dX56_third_9 : decode cX56_third 9 = .ok (.lload 4, 2) := dk_22 4 (dk_at dksX56_third_0 9 rfl rfl)
theorem dX56_third_11 : decode cX56_third 11 = .ok (.ldc2_w 138, 3) := dk_20 0 138 (dk_at dksX56_third_0 11 rfl rfl)
theorem dX56_third_14 : decode cX56_third 14 = .ok (.invokestatic 78, 3) := dk_184 0 78 (dk_at dksX56_third_0 14 rfl rfl)
theorem dX56_third_17 : decode cX56_third 17 = .ok (.ifCond .eq 12, 3) := dk_153 0 12 (dk_at dksX56_third_0 17 rfl rfl)
theorem dX56_third_20 : decode cX56_third 20 = .ok (.aload_n 0, 1) := dk_42 (dk_at dksX56_third_0 20 rfl rfl)
theorem dX56_third_21 : decode cX56_third 21 = .ok (.getfield 23, 3) := dk_180 0 23 (dk_at dksX56_third_0 21 rfl rfl)
theorem dX56_third_24 : decode cX56_third 24 = .ok (.iload_n 1, 1) := dk_27 (dk_at dksX56_third_1 0 rfl rfl)
theorem dX56_third_25 : decode cX56_third 25 = .ok (.iaload, 1) := dk_46 (dk_at dksX56_third_1 1 rfl rfl)
theorem dX56_third_26 : decode cX56_third 26 = .ok (.ifCond .ne 5, 3) := dk_154 0 5 (dk_at dksX56_third_1 2 rfl rfl)
theorem dX56_third_29 : decode cX56_third 29 = .ok (.iconst (-1), 1) := dk_2 (dk_at dksX56_third_1 5 rfl rfl)
theorem dX56_third_30 : decode cX56_third 30 = .ok (.ireturn, 1) := dk_172 (dk_at dksX56_third_1 6 rfl rfl)
theorem dX56_third_31 : decode cX56_third 31 = .ok (.aload_n 0, 1) := dk_42 (dk_at dksX56_third_1 7 rfl rfl)
theorem dX56_third_32 : decode cX56_third 32 = .ok (.getfield 32, 3) := dk_180 0 32 (dk_at dksX56_third_1 8 rfl rfl)
theorem dX56_third_35 : decode cX56_third 35 = .ok (.iload_n 1, 1) := dk_27 (dk_at dksX56_third_1 11 rfl rfl)
theorem dX56_third_36 : decode cX56_third 36 = .ok (.lload_n 2, 1) := dk_32 (dk_at dksX56_third_1 12 rfl rfl)
theorem dX56_third_37 : decode cX56_third 37 = .ok (.l2i, 1) := dk_136 (dk_at dksX56_third_1 13 rfl rfl)
theorem dX56_third_38 : decode cX56_third 38 = .ok (.iastore, 1) := dk_79 (dk_at dksX56_third_1 14 rfl rfl)
theorem dX56_third_39 : decode cX56_third 39 = .ok (.aload_n 0, 1) := dk_42 (dk_at dksX56_third_1 15 rfl rfl)
theorem dX56_third_40 : decode cX56_third 40 = .ok (.getfield 35, 3) := dk_180 0 35 (dk_at dksX56_third_1 16 rfl rfl)
theorem dX56_third_43 : decode cX56_third 43 = .ok (.iload_n 1, 1) := dk_27 (dk_at dksX56_third_1 19 rfl rfl)
theorem dX56_third_44 : decode cX56_third 44 = .ok (.lload 4, 2) := dk_22 4 (dk_at dksX56_third_1 20 rfl rfl)
theorem dX56_third_46 : decode cX56_third 46 = .ok (.l2i, 1) := dk_136 (dk_at dksX56_third_1 22 rfl rfl)
theorem dX56_third_47 : decode cX56_third 47 = .ok (.iastore, 1) := dk_79 (dk_at dksX56_third_1 23 rfl rfl)
theorem dX56_third_48 : decode cX56_third 48 = .ok (.aload_n 0, 1) := dk_42 (dk_at dksX56_third_2 0 rfl rfl)
theorem dX56_third_49 : decode cX56_third 49 = .ok (.lload_n 2, 1) := dk_32 (dk_at dksX56_third_2 1 rfl rfl)
theorem dX56_third_50 : decode cX56_third 50 = .ok (.lload 4, 2) := dk_22 4 (dk_at dksX56_third_2 2 rfl rfl)
theorem dX56_third_52 : decode cX56_third 52 = .ok (.invokevirtual 152, 3) := dk_182 0 152 (dk_at dksX56_third_2 4 rfl rfl)
theorem dX56_third_55 : decode cX56_third 55 = .ok (.aload_n 0, 1) := dk_42 (dk_at dksX56_third_2 7 rfl rfl)
theorem dX56_third_56 : decode cX56_third 56 = .ok (.aload_n 0, 1) := dk_42 (dk_at dksX56_third_2 8 rfl rfl)
theorem dX56_third_57 : decode cX56_third 57 = .ok (.iload_n 1, 1) := dk_27 (dk_at dksX56_third_2 9 rfl rfl)
theorem dX56_third_58 : decode cX56_third 58 = .ok (.iconst 0, 1) := dk_3 (dk_at dksX56_third_2 10 rfl rfl)
theorem dX56_third_59 : decode cX56_third 59 = .ok (.iconst (-1), 1) := dk_2 (dk_at dksX56_third_2 11 rfl rfl)
theorem dX56_third_60 : decode cX56_third 60 = .ok (.invokevirtual 127, 3) := dk_182 0 127 (dk_at dksX56_third_2 12 rfl rfl)
theorem dX56_third_63 : decode cX56_third 63 = .ok (.aload_n 0, 1) := dk_42 (dk_at dksX56_third_2 15 rfl rfl)
theorem dX56_third_64 : decode cX56_third 64 = .ok (.iload_n 1, 1) := dk_27 (dk_at dksX56_third_2 16 rfl rfl)
theorem dX56_third_65 : decode cX56_third 65 = .ok (.iconst (-1), 1) := dk_2 (dk_at dksX56_third_2 17 rfl rfl)
theorem dX56_third_66 : decode cX56_third 66 = .ok (.iconst (-1), 1) := dk_2 (dk_at dksX56_third_2 18 rfl rfl)
theorem dX56_third_67 : decode cX56_third 67 = .ok (.invokevirtual 127, 3) := dk_182 0 127 (dk_at dksX56_third_2 19 rfl rfl)
theorem dX56_third_70 : decode cX56_third 70 = .ok (.invokevirtual 152, 3) := dk_182 0 152 (dk_at dksX56_third_3 0 rfl rfl)
theorem dX56_third_73 : decode cX56_third 73 = .ok (.if_icmp .lt 7, 3) := dk_161 0 7 (dk_at dksX56_third_3 3 rfl rfl)
theorem dX56_third_76 : decode cX56_third 76 = .ok (.iconst 1, 1) := dk_4 (dk_at dksX56_third_3 6 rfl rfl)
theorem dX56_third_77 : decode cX56_third 77 = .ok (.goto 4, 3) := dk_167 0 4 (dk_at dksX56_third_3 7 rfl rfl)
theorem dX56_third_80 : decode cX56_third 80 = .ok (.iconst 0, 1) := dk_3 (dk_at dksX56_third_3 10 rfl rfl)
theorem dX56_third_81 : decode cX56_third 81 = .ok (.ireturn, 1) := dk_172 (dk_at dksX56_third_3 11 rfl rfl)
abbrev cX56_place : ByteArray := prog_62_method_29_code
def yX56_place : MethodName := ⟨RX56, "place", "(II)I"⟩
def dkwX56_place_5 : List UInt8 := [21, 7, 79, 132, 5, 255, 167, 255, 193, 42, 180, 0, 59, 28, 46, 172]
abbrev dktX56_place_5 : List UInt8 := dkwX56_place_5 ++ []
def dkwX56_place_4 : List UInt8 := [46, 54, 7, 42, 180, 0, 59, 21, 5, 42, 180, 0, 59, 21, 6, 46, 79, 42, 180, 0, 59, 21, 6]
abbrev dktX56_place_4 : List UInt8 := dkwX56_place_4 ++ dktX56_place_5
def dkwX56_place_3 : List UInt8 := [20, 0, 160, 97, 66, 33, 16, 33, 125, 21, 5, 4, 96, 133, 113, 136, 54, 6, 42, 180, 0, 59, 21, 5]
abbrev dktX56_place_3 : List UInt8 := dkwX56_place_3 ++ dktX56_place_4
def dkwX56_place_2 : List UInt8 := [20, 0, 156, 27, 133, 105, 97, 66, 16, 99, 54, 5, 21, 5, 158, 0, 64, 33, 20, 0, 158, 105]
abbrev dktX56_place_2 : List UInt8 := dkwX56_place_2 ++ dktX56_place_3
def dkwX56_place_1 : List UInt8 := [16, 100, 162, 0, 16, 42, 180, 0, 59, 29, 29, 79, 132, 3, 1, 167, 255, 240, 42, 180, 0, 62]
abbrev dktX56_place_1 : List UInt8 := dkwX56_place_1 ++ dktX56_place_2
def dkwX56_place_0 : List UInt8 := [42, 27, 182, 0, 121, 153, 0, 13, 28, 155, 0, 9, 28, 16, 100, 161, 0, 5, 2, 172, 3, 62, 29]
abbrev dktX56_place_0 : List UInt8 := dkwX56_place_0 ++ dktX56_place_1
theorem dksX56_place_0 : cX56_place.data.toList.drop 0 = dktX56_place_0 := by decide +kernel
theorem dksX56_place_1 : cX56_place.data.toList.drop 23 = dktX56_place_1 := dk_seg dksX56_place_0 23 rfl rfl
theorem dksX56_place_2 : cX56_place.data.toList.drop 45 = dktX56_place_2 := dk_seg dksX56_place_1 22 rfl rfl
theorem dksX56_place_3 : cX56_place.data.toList.drop 67 = dktX56_place_3 := dk_seg dksX56_place_2 22 rfl rfl
theorem dksX56_place_4 : cX56_place.data.toList.drop 91 = dktX56_place_4 := dk_seg dksX56_place_3 24 rfl rfl
theorem dksX56_place_5 : cX56_place.data.toList.drop 114 = dktX56_place_5 := dk_seg dksX56_place_4 23 rfl rfl
theorem dX56_place_0 : decode cX56_place 0 = .ok (.aload_n 0, 1) := dk_42 (dk_at dksX56_place_0 0 rfl rfl)
theorem dX56_place_1 : decode cX56_place 1 = .ok (.iload_n 1, 1) := dk_27 (dk_at dksX56_place_0 1 rfl rfl)
theorem dX56_place_2 : decode cX56_place 2 = .ok (.invokevirtual 121, 3) := dk_182 0 121 (dk_at dksX56_place_0 2 rfl rfl)
theorem dX56_place_5 : decode cX56_place 5 = .ok (.ifCond .eq 13, 3) := dk_153 0 13 (dk_at dksX56_place_0 5 rfl rfl)
theorem dX56_place_8 : decode cX56_place 8 = .ok (.iload_n 2, 1) := dk_28 (dk_at dksX56_place_0 8 rfl rfl)
theorem dX56_place_9 : decode cX56_place 9 = .ok (.ifCond .lt 9, 3) := dk_155 0 9 (dk_at dksX56_place_0 9 rfl rfl)
theorem dX56_place_12 : decode cX56_place 12 = .ok (.iload_n 2, 1) := dk_28 (dk_at dksX56_place_0 12 rfl rfl)
theorem dX56_place_13 : decode cX56_place 13 = .ok (.bipush 100, 2) := dk_16 100 (dk_at dksX56_place_0 13 rfl rfl)
theorem dX56_place_15 : decode cX56_place 15 = .ok (.if_icmp .lt 5, 3) := dk_161 0 5 (dk_at dksX56_place_0 15 rfl rfl)
theorem dX56_place_18 : decode cX56_place 18 = .ok (.iconst (-1), 1) := dk_2 (dk_at dksX56_place_0 18 rfl rfl)
theorem dX56_place_19 : decode cX56_place 19 = .ok (.ireturn, 1) := dk_172 (dk_at dksX56_place_0 19 rfl rfl)
theorem dX56_place_20 : decode cX56_place 20 = .ok (.iconst 0, 1) := dk_3 (dk_at dksX56_place_0 20 rfl rfl)
theorem dX56_place_21 : decode cX56_place 21 = .ok (.istore_n 3, 1) := dk_62 (dk_at dksX56_place_0 21 rfl rfl)
theorem dX56_place_22 : decode cX56_place 22 = .ok (.iload_n 3, 1) := dk_29 (dk_at dksX56_place_0 22 rfl rfl)
theorem dX56_place_23 : decode cX56_place 23 = .ok (.bipush 100, 2) := dk_16 100 (dk_at dksX56_place_1 0 rfl rfl)
theorem dX56_place_25 : decode cX56_place 25 = .ok (.if_icmp .ge 16, 3) := dk_162 0 16 (dk_at dksX56_place_1 2 rfl rfl)
theorem dX56_place_28 : decode cX56_place 28 = .ok (.aload_n 0, 1) := dk_42 (dk_at dksX56_place_1 5 rfl rfl)
theorem dX56_place_29 : decode cX56_place 29 = .ok (.getfield 59, 3) := dk_180 0 59 (dk_at dksX56_place_1 6 rfl rfl)
theorem dX56_place_32 : decode cX56_place 32 = .ok (.iload_n 3, 1) := dk_29 (dk_at dksX56_place_1 9 rfl rfl)
theorem dX56_place_33 : decode cX56_place 33 = .ok (.iload_n 3, 1) := dk_29 (dk_at dksX56_place_1 10 rfl rfl)
theorem dX56_place_34 : decode cX56_place 34 = .ok (.iastore, 1) := dk_79 (dk_at dksX56_place_1 11 rfl rfl)
theorem dX56_place_35 : decode cX56_place 35 = .ok (.iinc 3 1, 3) := dk_132 3 1 (dk_at dksX56_place_1 12 rfl rfl)
theorem dX56_place_38 : decode cX56_place 38 = .ok (.goto (-16), 3) := dk_167 255 240 (dk_at dksX56_place_1 15 rfl rfl)
theorem dX56_place_41 : decode cX56_place 41 = .ok (.aload_n 0, 1) := dk_42 (dk_at dksX56_place_1 18 rfl rfl)
theorem dX56_place_42 : decode cX56_place 42 = .ok (.getfield 62, 3) := dk_180 0 62 (dk_at dksX56_place_1 19 rfl rfl)
theorem dX56_place_45 : decode cX56_place 45 = .ok (.ldc2_w 156, 3) := dk_20 0 156 (dk_at dksX56_place_2 0 rfl rfl)
theorem dX56_place_48 : decode cX56_place 48 = .ok (.iload_n 1, 1) := dk_27 (dk_at dksX56_place_2 3 rfl rfl)
theorem dX56_place_49 : decode cX56_place 49 = .ok (.i2l, 1) := dk_133 (dk_at dksX56_place_2 4 rfl rfl)
theorem dX56_place_50 : decode cX56_place 50 = .ok (.lmul, 1) := dk_105 (dk_at dksX56_place_2 5 rfl rfl)
theorem dX56_place_51 : decode cX56_place 51 = .ok (.ladd, 1) := dk_97 (dk_at dksX56_place_2 6 rfl rfl)
theorem dX56_place_52 : decode cX56_place 52 = .ok (.lstore_n 3, 1) := dk_66 (dk_at dksX56_place_2 7 rfl rfl)
theorem dX56_place_53 : decode cX56_place 53 = .ok (.bipush 99, 2) := dk_16 99 (dk_at dksX56_place_2 8 rfl rfl)
theorem dX56_place_55 : decode cX56_place 55 = .ok (.istore 5, 2) := dk_54 5 (dk_at dksX56_place_2 10 rfl rfl)
theorem dX56_place_57 : decode cX56_place 57 = .ok (.iload 5, 2) := dk_21 5 (dk_at dksX56_place_2 12 rfl rfl)
theorem dX56_place_59 : decode cX56_place 59 = .ok (.ifCond .le 64, 3) := dk_158 0 64 (dk_at dksX56_place_2 14 rfl rfl)
theorem dX56_place_62 : decode cX56_place 62 = .ok (.lload_n 3, 1) := dk_33 (dk_at dksX56_place_2 17 rfl rfl)
theorem dX56_place_63 : decode cX56_place 63 = .ok (.ldc2_w 158, 3) := dk_20 0 158 (dk_at dksX56_place_2 18 rfl rfl)
theorem dX56_place_66 : decode cX56_place 66 = .ok (.lmul, 1) := dk_105 (dk_at dksX56_place_2 21 rfl rfl)
theorem dX56_place_67 : decode cX56_place 67 = .ok (.ldc2_w 160, 3) := dk_20 0 160 (dk_at dksX56_place_3 0 rfl rfl)
theorem dX56_place_70 : decode cX56_place 70 = .ok (.ladd, 1) := dk_97 (dk_at dksX56_place_3 3 rfl rfl)
theorem dX56_place_71 : decode cX56_place 71 = .ok (.lstore_n 3, 1) := dk_66 (dk_at dksX56_place_3 4 rfl rfl)
theorem dX56_place_72 : decode cX56_place 72 = .ok (.lload_n 3, 1) := dk_33 (dk_at dksX56_place_3 5 rfl rfl)
theorem dX56_place_73 : decode cX56_place 73 = .ok (.bipush 33, 2) := dk_16 33 (dk_at dksX56_place_3 6 rfl rfl)
theorem dX56_place_75 : decode cX56_place 75 = .ok (.lushr, 1) := dk_125 (dk_at dksX56_place_3 8 rfl rfl)
theorem dX56_place_76 : decode cX56_place 76 = .ok (.iload 5, 2) := dk_21 5 (dk_at dksX56_place_3 9 rfl rfl)
theorem dX56_place_78 : decode cX56_place 78 = .ok (.iconst 1, 1) := dk_4 (dk_at dksX56_place_3 11 rfl rfl)
theorem dX56_place_79 : decode cX56_place 79 = .ok (.iadd, 1) := dk_96 (dk_at dksX56_place_3 12 rfl rfl)
theorem dX56_place_80 : decode cX56_place 80 = .ok (.i2l, 1) := dk_133 (dk_at dksX56_place_3 13 rfl rfl)
theorem dX56_place_81 : decode cX56_place 81 = .ok (.lrem, 1) := dk_113 (dk_at dksX56_place_3 14 rfl rfl)
theorem dX56_place_82 : decode cX56_place 82 = .ok (.l2i, 1) := dk_136 (dk_at dksX56_place_3 15 rfl rfl)
theorem dX56_place_83 : decode cX56_place 83 = .ok (.istore 6, 2) := dk_54 6 (dk_at dksX56_place_3 16 rfl rfl)
theorem dX56_place_85 : decode cX56_place 85 = .ok (.aload_n 0, 1) := dk_42 (dk_at dksX56_place_3 18 rfl rfl)
theorem dX56_place_86 : decode cX56_place 86 = .ok (.getfield 59, 3) := dk_180 0 59 (dk_at dksX56_place_3 19 rfl rfl)
theorem dX56_place_89 : decode cX56_place 89 = .ok (.iload 5, 2) := dk_21 5 (dk_at dksX56_place_3 22 rfl rfl)
theorem dX56_place_91 : decode cX56_place 91 = .ok (.iaload, 1) := dk_46 (dk_at dksX56_place_4 0 rfl rfl)
theorem dX56_place_92 : decode cX56_place 92 = .ok (.istore 7, 2) := dk_54 7 (dk_at dksX56_place_4 1 rfl rfl)
theorem dX56_place_94 : decode cX56_place 94 = .ok (.aload_n 0, 1) := dk_42 (dk_at dksX56_place_4 3 rfl rfl)
theorem dX56_place_95 : decode cX56_place 95 = .ok (.getfield 59, 3) := dk_180 0 59 (dk_at dksX56_place_4 4 rfl rfl)
theorem dX56_place_98 : decode cX56_place 98 = .ok (.iload 5, 2) := dk_21 5 (dk_at dksX56_place_4 7 rfl rfl)
theorem dX56_place_100 : decode cX56_place 100 = .ok (.aload_n 0, 1) := dk_42 (dk_at dksX56_place_4 9 rfl rfl)
theorem dX56_place_101 : decode cX56_place 101 = .ok (.getfield 59, 3) := dk_180 0 59 (dk_at dksX56_place_4 10 rfl rfl)
theorem dX56_place_104 : decode cX56_place 104 = .ok (.iload 6, 2) := dk_21 6 (dk_at dksX56_place_4 13 rfl rfl)
theorem dX56_place_106 : decode cX56_place 106 = .ok (.iaload, 1) := dk_46 (dk_at dksX56_place_4 15 rfl rfl)
theorem dX56_place_107 : decode cX56_place 107 = .ok (.iastore, 1) := dk_79 (dk_at dksX56_place_4 16 rfl rfl)
theorem dX56_place_108 : decode cX56_place 108 = .ok (.aload_n 0, 1) := dk_42 (dk_at dksX56_place_4 17 rfl rfl)
theorem dX56_place_109 : decode cX56_place 109 = .ok (.getfield 59, 3) := dk_180 0 59 (dk_at dksX56_place_4 18 rfl rfl)
theorem dX56_place_112 : decode cX56_place 112 = .ok (.iload 6, 2) := dk_21 6 (dk_at dksX56_place_4 21 rfl rfl)
theorem dX56_place_114 : decode cX56_place 114 = .ok (.iload 7, 2) := dk_21 7 (dk_at dksX56_place_5 0 rfl rfl)
theorem dX56_place_116 : decode cX56_place 116 = .ok (.iastore, 1) := dk_79 (dk_at dksX56_place_5 2 rfl rfl)
theorem dX56_place_117 : decode cX56_place 117 = .ok (.iinc 5 (-1), 3) := dk_132 5 255 (dk_at dksX56_place_5 3 rfl rfl)
theorem dX56_place_120 : decode cX56_place 120 = .ok (.goto (-63), 3) := dk_167 255 193 (dk_at dksX56_place_5 6 rfl rfl)
theorem dX56_place_123 : decode cX56_place 123 = .ok (.aload_n 0, 1) := dk_42 (dk_at dksX56_place_5 9 rfl rfl)
theorem dX56_place_124 : decode cX56_place 124 = .ok (.getfield 59, 3) := dk_180 0 59 (dk_at dksX56_place_5 10 rfl rfl)
theorem dX56_place_127 : decode cX56_place 127 = .ok (.iload_n 2, 1) := dk_28 (dk_at dksX56_place_5 13 rfl rfl)
theorem dX56_place_128 : decode cX56_place 128 = .ok (.iaload, 1) := dk_46 (dk_at dksX56_place_5 14 rfl rfl)
theorem dX56_place_129 : decode cX56_place 129 = .ok (.ireturn, 1) := dk_172 (dk_at dksX56_place_5 15 rfl rfl)
abbrev cX56_dry : ByteArray := prog_62_method_30_code
def yX56_dry : MethodName := ⟨RX56, "dry", "(IJJ)Z"⟩
def dkwX56_dry_5 : List UInt8 := [21, 6, 22, 4, 80, 42, 180, 0, 38, 27, 92, 46, 4, 96, 79, 4, 172]
abbrev dktX56_dry_5 : List UInt8 := dkwX56_dry_5 ++ []
def dkwX56_dry_4 : List UInt8 := [21, 6, 4, 100, 47, 148, 158, 0, 5, 3, 172, 42, 180, 0, 41, 21, 6, 32, 80, 42, 180, 0, 44]
abbrev dktX56_dry_4 : List UInt8 := dkwX56_dry_4 ++ dktX56_dry_5
def dkwX56_dry_3 : List UInt8 := [158, 0, 34, 32, 42, 180, 0, 41, 21, 6, 4, 100, 47, 148, 158, 0, 18, 22, 4, 42, 180, 0, 44]
abbrev dktX56_dry_3 : List UInt8 := dkwX56_dry_3 ++ dktX56_dry_4
def dkwX56_dry_2 : List UInt8 := [160, 0, 5, 3, 172, 16, 20, 27, 104, 42, 180, 0, 38, 27, 46, 96, 54, 6, 42, 180, 0, 38, 27, 46]
abbrev dktX56_dry_2 : List UInt8 := dkwX56_dry_2 ++ dktX56_dry_3
def dkwX56_dry_1 : List UInt8 := [10, 148, 155, 0, 23, 22, 4, 20, 0, 119, 148, 157, 0, 14, 42, 180, 0, 38, 27, 46, 16, 20]
abbrev dktX56_dry_1 : List UInt8 := dkwX56_dry_1 ++ dktX56_dry_2
def dkwX56_dry_0 : List UInt8 := [42, 27, 182, 0, 121, 153, 0, 44, 32, 9, 148, 155, 0, 38, 32, 20, 0, 125, 148, 157, 0, 30, 22, 4]
abbrev dktX56_dry_0 : List UInt8 := dkwX56_dry_0 ++ dktX56_dry_1
theorem dksX56_dry_0 : cX56_dry.data.toList.drop 0 = dktX56_dry_0 := by decide +kernel
theorem dksX56_dry_1 : cX56_dry.data.toList.drop 24 = dktX56_dry_1 := dk_seg dksX56_dry_0 24 rfl rfl
theorem dksX56_dry_2 : cX56_dry.data.toList.drop 46 = dktX56_dry_2 := dk_seg dksX56_dry_1 22 rfl rfl
theorem dksX56_dry_3 : cX56_dry.data.toList.drop 70 = dktX56_dry_3 := dk_seg dksX56_dry_2 24 rfl rfl
theorem dksX56_dry_4 : cX56_dry.data.toList.drop 93 = dktX56_dry_4 := dk_seg dksX56_dry_3 23 rfl rfl
theorem dksX56_dry_5 : cX56_dry.data.toList.drop 116 = dktX56_dry_5 := dk_seg dksX56_dry_4 23 rfl rfl
theorem dX56_dry_0 : decode cX56_dry 0 = .ok (.aload_n 0, 1) := dk_42 (dk_at dksX56_dry_0 0 rfl rfl)
theorem dX56_dry_1 : decode cX56_dry 1 = .ok (.iload_n 1, 1) := dk_27 (dk_at dksX56_dry_0 1 rfl rfl)
theorem dX56_dry_2 : decode cX56_dry 2 = .ok (.invokevirtual 121, 3) := dk_182 0 121 (dk_at dksX56_dry_0 2 rfl rfl)
theorem dX56_dry_5 : decode cX56_dry 5 = .ok (.ifCond .eq 44, 3) := dk_153 0 44 (dk_at dksX56_dry_0 5 rfl rfl)
theorem dX56_dry_8 : decode cX56_dry 8 = .ok (.lload_n 2, 1) := dk_32 (dk_at dksX56_dry_0 8 rfl rfl)
theorem dX56_dry_9 : decode cX56_dry 9 = .ok (.lconst 0, 1) := dk_9 (dk_at dksX56_dry_0 9 rfl rfl)
theorem dX56_dry_10 : decode cX56_dry 10 = .ok (.lcmp, 1) := dk_148 (dk_at dksX56_dry_0 10 rfl rfl)
theorem dX56_dry_11 : decode cX56_dry 11 = .ok (.ifCond .lt 38, 3) := dk_155 0 38 (dk_at dksX56_dry_0 11 rfl rfl)
theorem dX56_dry_14 : decode cX56_dry 14 = .ok (.lload_n 2, 1) := dk_32 (dk_at dksX56_dry_0 14 rfl rfl)
theorem dX56_dry_15 : decode cX56_dry 15 = .ok (.ldc2_w 125, 3) := dk_20 0 125 (dk_at dksX56_dry_0 15 rfl rfl)
theorem dX56_dry_18 : decode cX56_dry 18 = .ok (.lcmp, 1) := dk_148 (dk_at dksX56_dry_0 18 rfl rfl)
theorem dX56_dry_19 : decode cX56_dry 19 = .ok (.ifCond .gt 30, 3) := dk_157 0 30 (dk_at dksX56_dry_0 19 rfl rfl)
theorem dX56_dry_22 : decode cX56_dry 22 = .ok (.lload 4, 2) := dk_22 4 (dk_at dksX56_dry_0 22 rfl rfl)
theorem dX56_dry_24 : decode cX56_dry 24 = .ok (.lconst 1, 1) := dk_10 (dk_at dksX56_dry_1 0 rfl rfl)
theorem dX56_dry_25 : decode cX56_dry 25 = .ok (.lcmp, 1) := dk_148 (dk_at dksX56_dry_1 1 rfl rfl)
theorem dX56_dry_26 : decode cX56_dry 26 = .ok (.ifCond .lt 23, 3) := dk_155 0 23 (dk_at dksX56_dry_1 2 rfl rfl)
theorem dX56_dry_29 : decode cX56_dry 29 = .ok (.lload 4, 2) := dk_22 4 (dk_at dksX56_dry_1 5 rfl rfl)
theorem dX56_dry_31 : decode cX56_dry 31 = .ok (.ldc2_w 119, 3) := dk_20 0 119 (dk_at dksX56_dry_1 7 rfl rfl)
theorem dX56_dry_34 : decode cX56_dry 34 = .ok (.lcmp, 1) := dk_148 (dk_at dksX56_dry_1 10 rfl rfl)
theorem dX56_dry_35 : decode cX56_dry 35 = .ok (.ifCond .gt 14, 3) := dk_157 0 14 (dk_at dksX56_dry_1 11 rfl rfl)
theorem dX56_dry_38 : decode cX56_dry 38 = .ok (.aload_n 0, 1) := dk_42 (dk_at dksX56_dry_1 14 rfl rfl)
theorem dX56_dry_39 : decode cX56_dry 39 = .ok (.getfield 38, 3) := dk_180 0 38 (dk_at dksX56_dry_1 15 rfl rfl)
theorem dX56_dry_42 : decode cX56_dry 42 = .ok (.iload_n 1, 1) := dk_27 (dk_at dksX56_dry_1 18 rfl rfl)
theorem dX56_dry_43 : decode cX56_dry 43 = .ok (.iaload, 1) := dk_46 (dk_at dksX56_dry_1 19 rfl rfl)
theorem dX56_dry_44 : decode cX56_dry 44 = .ok (.bipush 20, 2) := dk_16 20 (dk_at dksX56_dry_1 20 rfl rfl)
theorem dX56_dry_46 : decode cX56_dry 46 = .ok (.if_icmp .ne 5, 3) := dk_160 0 5 (dk_at dksX56_dry_2 0 rfl rfl)
theorem dX56_dry_49 : decode cX56_dry 49 = .ok (.iconst 0, 1) := dk_3 (dk_at dksX56_dry_2 3 rfl rfl)
theorem dX56_dry_50 : decode cX56_dry 50 = .ok (.ireturn, 1) := dk_172 (dk_at dksX56_dry_2 4 rfl rfl)
theorem dX56_dry_51 : decode cX56_dry 51 = .ok (.bipush 20, 2) := dk_16 20 (dk_at dksX56_dry_2 5 rfl rfl)
theorem dX56_dry_53 : decode cX56_dry 53 = .ok (.iload_n 1, 1) := dk_27 (dk_at dksX56_dry_2 7 rfl rfl)
theorem dX56_dry_54 : decode cX56_dry 54 = .ok (.imul, 1) := dk_104 (dk_at dksX56_dry_2 8 rfl rfl)
theorem dX56_dry_55 : decode cX56_dry 55 = .ok (.aload_n 0, 1) := dk_42 (dk_at dksX56_dry_2 9 rfl rfl)
theorem dX56_dry_56 : decode cX56_dry 56 = .ok (.getfield 38, 3) := dk_180 0 38 (dk_at dksX56_dry_2 10 rfl rfl)
theorem dX56_dry_59 : decode cX56_dry 59 = .ok (.iload_n 1, 1) := dk_27 (dk_at dksX56_dry_2 13 rfl rfl)
theorem dX56_dry_60 : decode cX56_dry 60 = .ok (.iaload, 1) := dk_46 (dk_at dksX56_dry_2 14 rfl rfl)
theorem dX56_dry_61 : decode cX56_dry 61 = .ok (.iadd, 1) := dk_96 (dk_at dksX56_dry_2 15 rfl rfl)
theorem dX56_dry_62 : decode cX56_dry 62 = .ok (.istore 6, 2) := dk_54 6 (dk_at dksX56_dry_2 16 rfl rfl)
theorem dX56_dry_64 : decode cX56_dry 64 = .ok (.aload_n 0, 1) := dk_42 (dk_at dksX56_dry_2 18 rfl rfl)
theorem dX56_dry_65 : decode cX56_dry 65 = .ok (.getfield 38, 3) := dk_180 0 38 (dk_at dksX56_dry_2 19 rfl rfl)
theorem dX56_dry_68 : decode cX56_dry 68 = .ok (.iload_n 1, 1) := dk_27 (dk_at dksX56_dry_2 22 rfl rfl)
theorem dX56_dry_69 : decode cX56_dry 69 = .ok (.iaload, 1) := dk_46 (dk_at dksX56_dry_2 23 rfl rfl)
theorem dX56_dry_70 : decode cX56_dry 70 = .ok (.ifCond .le 34, 3) := dk_158 0 34 (dk_at dksX56_dry_3 0 rfl rfl)
theorem dX56_dry_73 : decode cX56_dry 73 = .ok (.lload_n 2, 1) := dk_32 (dk_at dksX56_dry_3 3 rfl rfl)
theorem dX56_dry_74 : decode cX56_dry 74 = .ok (.aload_n 0, 1) := dk_42 (dk_at dksX56_dry_3 4 rfl rfl)
theorem dX56_dry_75 : decode cX56_dry 75 = .ok (.getfield 41, 3) := dk_180 0 41 (dk_at dksX56_dry_3 5 rfl rfl)
theorem dX56_dry_78 : decode cX56_dry 78 = .ok (.iload 6, 2) := dk_21 6 (dk_at dksX56_dry_3 8 rfl rfl)
theorem dX56_dry_80 : decode cX56_dry 80 = .ok (.iconst 1, 1) := dk_4 (dk_at dksX56_dry_3 10 rfl rfl)
theorem dX56_dry_81 : decode cX56_dry 81 = .ok (.isub, 1) := dk_100 (dk_at dksX56_dry_3 11 rfl rfl)
theorem dX56_dry_82 : decode cX56_dry 82 = .ok (.laload, 1) := dk_47 (dk_at dksX56_dry_3 12 rfl rfl)
theorem dX56_dry_83 : decode cX56_dry 83 = .ok (.lcmp, 1) := dk_148 (dk_at dksX56_dry_3 13 rfl rfl)
theorem dX56_dry_84 : decode cX56_dry 84 = .ok (.ifCond .le 18, 3) := dk_158 0 18 (dk_at dksX56_dry_3 14 rfl rfl)
theorem dX56_dry_87 : decode cX56_dry 87 = .ok (.lload 4, 2) := dk_22 4 (dk_at dksX56_dry_3 17 rfl rfl)
theorem dX56_dry_89 : decode cX56_dry 89 = .ok (.aload_n 0, 1) := dk_42 (dk_at dksX56_dry_3 19 rfl rfl)
theorem dX56_dry_90 : decode cX56_dry 90 = .ok (.getfield 44, 3) := dk_180 0 44 (dk_at dksX56_dry_3 20 rfl rfl)
theorem dX56_dry_93 : decode cX56_dry 93 = .ok (.iload 6, 2) := dk_21 6 (dk_at dksX56_dry_4 0 rfl rfl)
theorem dX56_dry_95 : decode cX56_dry 95 = .ok (.iconst 1, 1) := dk_4 (dk_at dksX56_dry_4 2 rfl rfl)
theorem dX56_dry_96 : decode cX56_dry 96 = .ok (.isub, 1) := dk_100 (dk_at dksX56_dry_4 3 rfl rfl)
theorem dX56_dry_97 : decode cX56_dry 97 = .ok (.laload, 1) := dk_47 (dk_at dksX56_dry_4 4 rfl rfl)
theorem dX56_dry_98 : decode cX56_dry 98 = .ok (.lcmp, 1) := dk_148 (dk_at dksX56_dry_4 5 rfl rfl)
theorem dX56_dry_99 : decode cX56_dry 99 = .ok (.ifCond .le 5, 3) := dk_158 0 5 (dk_at dksX56_dry_4 6 rfl rfl)
theorem dX56_dry_102 : decode cX56_dry 102 = .ok (.iconst 0, 1) := dk_3 (dk_at dksX56_dry_4 9 rfl rfl)
theorem dX56_dry_103 : decode cX56_dry 103 = .ok (.ireturn, 1) := dk_172 (dk_at dksX56_dry_4 10 rfl rfl)
theorem dX56_dry_104 : decode cX56_dry 104 = .ok (.aload_n 0, 1) := dk_42 (dk_at dksX56_dry_4 11 rfl rfl)
theorem dX56_dry_105 : decode cX56_dry 105 = .ok (.getfield 41, 3) := dk_180 0 41 (dk_at dksX56_dry_4 12 rfl rfl)
theorem dX56_dry_108 : decode cX56_dry 108 = .ok (.iload 6, 2) := dk_21 6 (dk_at dksX56_dry_4 15 rfl rfl)
theorem dX56_dry_110 : decode cX56_dry 110 = .ok (.lload_n 2, 1) := dk_32 (dk_at dksX56_dry_4 17 rfl rfl)
theorem dX56_dry_111 : decode cX56_dry 111 = .ok (.lastore, 1) := dk_80 (dk_at dksX56_dry_4 18 rfl rfl)
theorem dX56_dry_112 : decode cX56_dry 112 = .ok (.aload_n 0, 1) := dk_42 (dk_at dksX56_dry_4 19 rfl rfl)
theorem dX56_dry_113 : decode cX56_dry 113 = .ok (.getfield 44, 3) := dk_180 0 44 (dk_at dksX56_dry_4 20 rfl rfl)
theorem dX56_dry_116 : decode cX56_dry 116 = .ok (.iload 6, 2) := dk_21 6 (dk_at dksX56_dry_5 0 rfl rfl)
theorem dX56_dry_118 : decode cX56_dry 118 = .ok (.lload 4, 2) := dk_22 4 (dk_at dksX56_dry_5 2 rfl rfl)
theorem dX56_dry_120 : decode cX56_dry 120 = .ok (.lastore, 1) := dk_80 (dk_at dksX56_dry_5 4 rfl rfl)
theorem dX56_dry_121 : decode cX56_dry 121 = .ok (.aload_n 0, 1) := dk_42 (dk_at dksX56_dry_5 5 rfl rfl)
theorem dX56_dry_122 : decode cX56_dry 122 = .ok (.getfield 38, 3) := dk_180 0 38 (dk_at dksX56_dry_5 6 rfl rfl)
theorem dX56_dry_125 : decode cX56_dry 125 = .ok (.iload_n 1, 1) := dk_27 (dk_at dksX56_dry_5 9 rfl rfl)
theorem dX56_dry_126 : decode cX56_dry 126 = .ok (.dup2, 1) := dk_92 (dk_at dksX56_dry_5 10 rfl rfl)
theorem dX56_dry_127 : decode cX56_dry 127 = .ok (.iaload, 1) := dk_46 (dk_at dksX56_dry_5 11 rfl rfl)
theorem dX56_dry_128 : decode cX56_dry 128 = .ok (.iconst 1, 1) := dk_4 (dk_at dksX56_dry_5 12 rfl rfl)
theorem dX56_dry_129 : decode cX56_dry 129 = .ok (.iadd, 1) := dk_96 (dk_at dksX56_dry_5 13 rfl rfl)
theorem dX56_dry_130 : decode cX56_dry 130 = .ok (.iastore, 1) := dk_79 (dk_at dksX56_dry_5 14 rfl rfl)
theorem dX56_dry_131 : decode cX56_dry 131 = .ok (.iconst 1, 1) := dk_4 (dk_at dksX56_dry_5 15 rfl rfl)
theorem dX56_dry_132 : decode cX56_dry 132 = .ok (.ireturn, 1) := dk_172 (dk_at dksX56_dry_5 16 rfl rfl)
abbrev cX56_moisture : ByteArray := prog_62_method_31_code
def yX56_moisture : MethodName := ⟨RX56, "moisture", "(II)J"⟩
def dkwX56_moisture_4 : List UInt8 := [184, 0, 90, 167, 0, 6, 20, 0, 70, 173]
abbrev dktX56_moisture_4 : List UInt8 := dkwX56_moisture_4 ++ []
def dkwX56_moisture_3 : List UInt8 := [22, 5, 148, 154, 0, 7, 4, 167, 0, 4, 3, 54, 7, 21, 7, 153, 0, 15, 33, 22, 5, 101, 33, 28]
abbrev dktX56_moisture_3 : List UInt8 := dkwX56_moisture_3 ++ dktX56_moisture_4
def dkwX56_moisture_2 : List UInt8 := [4, 100, 47, 55, 5, 42, 180, 0, 44, 16, 20, 27, 104, 42, 180, 0, 38, 27, 46, 96, 5, 100, 47]
abbrev dktX56_moisture_2 : List UInt8 := dkwX56_moisture_2 ++ dktX56_moisture_3
def dkwX56_moisture_1 : List UInt8 := [180, 0, 44, 16, 20, 27, 104, 47, 66, 42, 180, 0, 44, 16, 20, 27, 104, 42, 180, 0, 38, 27, 46, 96]
abbrev dktX56_moisture_1 : List UInt8 := dkwX56_moisture_1 ++ dktX56_moisture_2
def dkwX56_moisture_0 : List UInt8 := [42, 27, 182, 0, 121, 153, 0, 13, 42, 180, 0, 38, 27, 46, 5, 162, 0, 7, 20, 0, 70, 173, 42]
abbrev dktX56_moisture_0 : List UInt8 := dkwX56_moisture_0 ++ dktX56_moisture_1
theorem dksX56_moisture_0 : cX56_moisture.data.toList.drop 0 = dktX56_moisture_0 := by decide +kernel
theorem dksX56_moisture_1 : cX56_moisture.data.toList.drop 23 = dktX56_moisture_1 := dk_seg dksX56_moisture_0 23 rfl rfl
theorem dksX56_moisture_2 : cX56_moisture.data.toList.drop 47 = dktX56_moisture_2 := dk_seg dksX56_moisture_1 24 rfl rfl
theorem dksX56_moisture_3 : cX56_moisture.data.toList.drop 70 = dktX56_moisture_3 := dk_seg dksX56_moisture_2 23 rfl rfl
theorem dksX56_moisture_4 : cX56_moisture.data.toList.drop 94 = dktX56_moisture_4 := dk_seg dksX56_moisture_3 24 rfl rfl
theorem dX56_moisture_0 : decode cX56_moisture 0 = .ok (.aload_n 0, 1) := dk_42 (dk_at dksX56_moisture_0 0 rfl rfl)
theorem dX56_moisture_1 : decode cX56_moisture 1 = .ok (.iload_n 1, 1) := dk_27 (dk_at dksX56_moisture_0 1 rfl rfl)
theorem dX56_moisture_2 : decode cX56_moisture 2 = .ok (.invokevirtual 121, 3) := dk_182 0 121 (dk_at dksX56_moisture_0 2 rfl rfl)
theorem dX56_moisture_5 : decode cX56_moisture 5 = .ok (.ifCond .eq 13, 3) := dk_153 0 13 (dk_at dksX56_moisture_0 5 rfl rfl)
theorem dX56_moisture_8 : decode cX56_moisture 8 = .ok (.aload_n 0, 1) := dk_42 (dk_at dksX56_moisture_0 8 rfl rfl)
theorem dX56_moisture_9 : decode cX56_moisture 9 = .ok (.getfield 38, 3) := dk_180 0 38 (dk_at dksX56_moisture_0 9 rfl rfl)
theorem dX56_moisture_12 : decode cX56_moisture 12 = .ok (.iload_n 1, 1) := dk_27 (dk_at dksX56_moisture_0 12 rfl rfl)
theorem dX56_moisture_13 : decode cX56_moisture 13 = .ok (.iaload, 1) := dk_46 (dk_at dksX56_moisture_0 13 rfl rfl)
theorem dX56_moisture_14 : decode cX56_moisture 14 = .ok (.iconst 2, 1) := dk_5 (dk_at dksX56_moisture_0 14 rfl rfl)
theorem dX56_moisture_15 : decode cX56_moisture 15 = .ok (.if_icmp .ge 7, 3) := dk_162 0 7 (dk_at dksX56_moisture_0 15 rfl rfl)
theorem dX56_moisture_18 : decode cX56_moisture 18 = .ok (.ldc2_w 70, 3) := dk_20 0 70 (dk_at dksX56_moisture_0 18 rfl rfl)
theorem dX56_moisture_21 : decode cX56_moisture 21 = .ok (.lreturn, 1) := dk_173 (dk_at dksX56_moisture_0 21 rfl rfl)
theorem dX56_moisture_22 : decode cX56_moisture 22 = .ok (.aload_n 0, 1) := dk_42 (dk_at dksX56_moisture_0 22 rfl rfl)
theorem dX56_moisture_23 : decode cX56_moisture 23 = .ok (.getfield 44, 3) := dk_180 0 44 (dk_at dksX56_moisture_1 0 rfl rfl)
theorem dX56_moisture_26 : decode cX56_moisture 26 = .ok (.bipush 20, 2) := dk_16 20 (dk_at dksX56_moisture_1 3 rfl rfl)
theorem dX56_moisture_28 : decode cX56_moisture 28 = .ok (.iload_n 1, 1) := dk_27 (dk_at dksX56_moisture_1 5 rfl rfl)
theorem dX56_moisture_29 : decode cX56_moisture 29 = .ok (.imul, 1) := dk_104 (dk_at dksX56_moisture_1 6 rfl rfl)
theorem dX56_moisture_30 : decode cX56_moisture 30 = .ok (.laload, 1) := dk_47 (dk_at dksX56_moisture_1 7 rfl rfl)
theorem dX56_moisture_31 : decode cX56_moisture 31 = .ok (.lstore_n 3, 1) := dk_66 (dk_at dksX56_moisture_1 8 rfl rfl)
theorem dX56_moisture_32 : decode cX56_moisture 32 = .ok (.aload_n 0, 1) := dk_42 (dk_at dksX56_moisture_1 9 rfl rfl)
theorem dX56_moisture_33 : decode cX56_moisture 33 = .ok (.getfield 44, 3) := dk_180 0 44 (dk_at dksX56_moisture_1 10 rfl rfl)
theorem dX56_moisture_36 : decode cX56_moisture 36 = .ok (.bipush 20, 2) := dk_16 20 (dk_at dksX56_moisture_1 13 rfl rfl)
theorem dX56_moisture_38 : decode cX56_moisture 38 = .ok (.iload_n 1, 1) := dk_27 (dk_at dksX56_moisture_1 15 rfl rfl)
theorem dX56_moisture_39 : decode cX56_moisture 39 = .ok (.imul, 1) := dk_104 (dk_at dksX56_moisture_1 16 rfl rfl)
theorem dX56_moisture_40 : decode cX56_moisture 40 = .ok (.aload_n 0, 1) := dk_42 (dk_at dksX56_moisture_1 17 rfl rfl)
theorem dX56_moisture_41 : decode cX56_moisture 41 = .ok (.getfield 38, 3) := dk_180 0 38 (dk_at dksX56_moisture_1 18 rfl rfl)
theorem dX56_moisture_44 : decode cX56_moisture 44 = .ok (.iload_n 1, 1) := dk_27 (dk_at dksX56_moisture_1 21 rfl rfl)
theorem dX56_moisture_45 : decode cX56_moisture 45 = .ok (.iaload, 1) := dk_46 (dk_at dksX56_moisture_1 22 rfl rfl)
theorem dX56_moisture_46 : decode cX56_moisture 46 = .ok (.iadd, 1) := dk_96 (dk_at dksX56_moisture_1 23 rfl rfl)
theorem dX56_moisture_47 : decode cX56_moisture 47 = .ok (.iconst 1, 1) := dk_4 (dk_at dksX56_moisture_2 0 rfl rfl)
theorem dX56_moisture_48 : decode cX56_moisture 48 = .ok (.isub, 1) := dk_100 (dk_at dksX56_moisture_2 1 rfl rfl)
theorem dX56_moisture_49 : decode cX56_moisture 49 = .ok (.laload, 1) := dk_47 (dk_at dksX56_moisture_2 2 rfl rfl)
theorem dX56_moisture_50 : decode cX56_moisture 50 = .ok (.lstore 5, 2) := dk_55 5 (dk_at dksX56_moisture_2 3 rfl rfl)
theorem dX56_moisture_52 : decode cX56_moisture 52 = .ok (.aload_n 0, 1) := dk_42 (dk_at dksX56_moisture_2 5 rfl rfl)
theorem dX56_moisture_53 : decode cX56_moisture 53 = .ok (.getfield 44, 3) := dk_180 0 44 (dk_at dksX56_moisture_2 6 rfl rfl)
theorem dX56_moisture_56 : decode cX56_moisture 56 = .ok (.bipush 20, 2) := dk_16 20 (dk_at dksX56_moisture_2 9 rfl rfl)
theorem dX56_moisture_58 : decode cX56_moisture 58 = .ok (.iload_n 1, 1) := dk_27 (dk_at dksX56_moisture_2 11 rfl rfl)
theorem dX56_moisture_59 : decode cX56_moisture 59 = .ok (.imul, 1) := dk_104 (dk_at dksX56_moisture_2 12 rfl rfl)
theorem dX56_moisture_60 : decode cX56_moisture 60 = .ok (.aload_n 0, 1) := dk_42 (dk_at dksX56_moisture_2 13 rfl rfl)
theorem dX56_moisture_61 : decode cX56_moisture 61 = .ok (.getfield 38, 3) := dk_180 0 38 (dk_at dksX56_moisture_2 14 rfl rfl)
theorem dX56_moisture_64 : decode cX56_moisture 64 = .ok (.iload_n 1, 1) := dk_27 (dk_at dksX56_moisture_2 17 rfl rfl)
theorem dX56_moisture_65 : decode cX56_moisture 65 = .ok (.iaload, 1) := dk_46 (dk_at dksX56_moisture_2 18 rfl rfl)
theorem dX56_moisture_66 : decode cX56_moisture 66 = .ok (.iadd, 1) := dk_96 (dk_at dksX56_moisture_2 19 rfl rfl)
theorem dX56_moisture_67 : decode cX56_moisture 67 = .ok (.iconst 2, 1) := dk_5 (dk_at dksX56_moisture_2 20 rfl rfl)
theorem dX56_moisture_68 : decode cX56_moisture 68 = .ok (.isub, 1) := dk_100 (dk_at dksX56_moisture_2 21 rfl rfl)
theorem dX56_moisture_69 : decode cX56_moisture 69 = .ok (.laload, 1) := dk_47 (dk_at dksX56_moisture_2 22 rfl rfl)
theorem dX56_moisture_70 : decode cX56_moisture 70 = .ok (.lload 5, 2) := dk_22 5 (dk_at dksX56_moisture_3 0 rfl rfl)
theorem dX56_moisture_72 : decode cX56_moisture 72 = .ok (.lcmp, 1) := dk_148 (dk_at dksX56_moisture_3 2 rfl rfl)
theorem dX56_moisture_73 : decode cX56_moisture 73 = .ok (.ifCond .ne 7, 3) := dk_154 0 7 (dk_at dksX56_moisture_3 3 rfl rfl)
theorem dX56_moisture_76 : decode cX56_moisture 76 = .ok (.iconst 1, 1) := dk_4 (dk_at dksX56_moisture_3 6 rfl rfl)
theorem dX56_moisture_77 : decode cX56_moisture 77 = .ok (.goto 4, 3) := dk_167 0 4 (dk_at dksX56_moisture_3 7 rfl rfl)
theorem dX56_moisture_80 : decode cX56_moisture 80 = .ok (.iconst 0, 1) := dk_3 (dk_at dksX56_moisture_3 10 rfl rfl)
theorem dX56_moisture_81 : decode cX56_moisture 81 = .ok (.istore 7, 2) := dk_54 7 (dk_at dksX56_moisture_3 11 rfl rfl)
theorem dX56_moisture_83 : decode cX56_moisture 83 = .ok (.iload 7, 2) := dk_21 7 (dk_at dksX56_moisture_3 13 rfl rfl)
theorem dX56_moisture_85 : decode cX56_moisture 85 = .ok (.ifCond .eq 15, 3) := dk_153 0 15 (dk_at dksX56_moisture_3 15 rfl rfl)
theorem dX56_moisture_88 : decode cX56_moisture 88 = .ok (.lload_n 3, 1) := dk_33 (dk_at dksX56_moisture_3 18 rfl rfl)
theorem dX56_moisture_89 : decode cX56_moisture 89 = .ok (.lload 5, 2) := dk_22 5 (dk_at dksX56_moisture_3 19 rfl rfl)
theorem dX56_moisture_91 : decode cX56_moisture 91 = .ok (.lsub, 1) := dk_101 (dk_at dksX56_moisture_3 21 rfl rfl)
theorem dX56_moisture_92 : decode cX56_moisture 92 = .ok (.lload_n 3, 1) := dk_33 (dk_at dksX56_moisture_3 22 rfl rfl)
theorem dX56_moisture_93 : decode cX56_moisture 93 = .ok (.iload_n 2, 1) := dk_28 (dk_at dksX56_moisture_3 23 rfl rfl)
theorem dX56_moisture_94 : decode cX56_moisture 94 = .ok (.invokestatic 90, 3) := dk_184 0 90 (dk_at dksX56_moisture_4 0 rfl rfl)
theorem dX56_moisture_97 : decode cX56_moisture 97 = .ok (.goto 6, 3) := dk_167 0 6 (dk_at dksX56_moisture_4 3 rfl rfl)
theorem dX56_moisture_100 : decode cX56_moisture 100 = .ok (.ldc2_w 70, 3) := dk_20 0 70 (dk_at dksX56_moisture_4 6 rfl rfl)
theorem dX56_moisture_103 : decode cX56_moisture 103 = .ok (.lreturn, 1) := dk_173 (dk_at dksX56_moisture_4 9 rfl rfl)
abbrev cX56_trend : ByteArray := prog_62_method_28_code
def yX56_trend : MethodName := ⟨RX56, "trend", "(I)I"⟩
def dkwX56_trend_3 : List UInt8 := [148, 158, 0, 7, 4, 167, 0, 15, 22, 4, 32, 148, 156, 0, 7, 5, 167, 0, 4, 3, 172]
abbrev dktX56_trend_3 : List UInt8 := dkwX56_trend_3 ++ []
def dkwX56_trend_2 : List UInt8 := [96, 182, 0, 149, 105, 65, 42, 27, 4, 96, 182, 0, 145, 42, 27, 182, 0, 149, 105, 55, 4, 22, 4, 32]
abbrev dktX56_trend_2 : List UInt8 := dkwX56_trend_2 ++ dktX56_trend_3
def dkwX56_trend_1 : List UInt8 := [153, 0, 14, 42, 180, 0, 23, 27, 4, 96, 46, 154, 0, 5, 2, 172, 42, 27, 182, 0, 145, 42, 27, 4]
abbrev dktX56_trend_1 : List UInt8 := dkwX56_trend_1 ++ dktX56_trend_2
def dkwX56_trend_0 : List UInt8 := [42, 27, 182, 0, 121, 153, 0, 33, 42, 27, 4, 96, 182, 0, 121, 153, 0, 23, 42, 180, 0, 23, 27, 46]
abbrev dktX56_trend_0 : List UInt8 := dkwX56_trend_0 ++ dktX56_trend_1
theorem dksX56_trend_0 : cX56_trend.data.toList.drop 0 = dktX56_trend_0 := by decide +kernel
theorem dksX56_trend_1 : cX56_trend.data.toList.drop 24 = dktX56_trend_1 := dk_seg dksX56_trend_0 24 rfl rfl
theorem dksX56_trend_2 : cX56_trend.data.toList.drop 48 = dktX56_trend_2 := dk_seg dksX56_trend_1 24 rfl rfl
theorem dksX56_trend_3 : cX56_trend.data.toList.drop 72 = dktX56_trend_3 := dk_seg dksX56_trend_2 24 rfl rfl
theorem dX56_trend_0 : decode cX56_trend 0 = .ok (.aload_n 0, 1) := dk_42 (dk_at dksX56_trend_0 0 rfl rfl)
theorem dX56_trend_1 : decode cX56_trend 1 = .ok (.iload_n 1, 1) := dk_27 (dk_at dksX56_trend_0 1 rfl rfl)
theorem dX56_trend_2 : decode cX56_trend 2 = .ok (.invokevirtual 121, 3) := dk_182 0 121 (dk_at dksX56_trend_0 2 rfl rfl)
theorem dX56_trend_5 : decode cX56_trend 5 = .ok (.ifCond .eq 33, 3) := dk_153 0 33 (dk_at dksX56_trend_0 5 rfl rfl)
theorem dX56_trend_8 : decode cX56_trend 8 = .ok (.aload_n 0, 1) := dk_42 (dk_at dksX56_trend_0 8 rfl rfl)
theorem dX56_trend_9 : decode cX56_trend 9 = .ok (.iload_n 1, 1) := dk_27 (dk_at dksX56_trend_0 9 rfl rfl)
theorem dX56_trend_10 : decode cX56_trend 10 = .ok (.iconst 1, 1) := dk_4 (dk_at dksX56_trend_0 10 rfl rfl)
theorem dX56_trend_11 : decode cX56_trend 11 = .ok (.iadd, 1) := dk_96 (dk_at dksX56_trend_0 11 rfl rfl)
theorem dX56_trend_12 : decode cX56_trend 12 = .ok (.invokevirtual 121, 3) := dk_182 0 121 (dk_at dksX56_trend_0 12 rfl rfl)
theorem dX56_trend_15 : decode cX56_trend 15 = .ok (.ifCond .eq 23, 3) := dk_153 0 23 (dk_at dksX56_trend_0 15 rfl rfl)
theorem dX56_trend_18 : decode cX56_trend 18 = .ok (.aload_n 0, 1) := dk_42 (dk_at dksX56_trend_0 18 rfl rfl)
theorem dX56_trend_19 : decode cX56_trend 19 = .ok (.getfield 23, 3) := dk_180 0 23 (dk_at dksX56_trend_0 19 rfl rfl)
theorem dX56_trend_22 : decode cX56_trend 22 = .ok (.iload_n 1, 1) := dk_27 (dk_at dksX56_trend_0 22 rfl rfl)
theorem dX56_trend_23 : decode cX56_trend 23 = .ok (.iaload, 1) := dk_46 (dk_at dksX56_trend_0 23 rfl rfl)
theorem dX56_trend_24 : decode cX56_trend 24 = .ok (.ifCond .eq 14, 3) := dk_153 0 14 (dk_at dksX56_trend_1 0 rfl rfl)
theorem dX56_trend_27 : decode cX56_trend 27 = .ok (.aload_n 0, 1) := dk_42 (dk_at dksX56_trend_1 3 rfl rfl)
theorem dX56_trend_28 : decode cX56_trend 28 = .ok (.getfield 23, 3) := dk_180 0 23 (dk_at dksX56_trend_1 4 rfl rfl)
theorem dX56_trend_31 : decode cX56_trend 31 = .ok (.iload_n 1, 1) := dk_27 (dk_at dksX56_trend_1 7 rfl rfl)
theorem dX56_trend_32 : decode cX56_trend 32 = .ok (.iconst 1, 1) := dk_4 (dk_at dksX56_trend_1 8 rfl rfl)
theorem dX56_trend_33 : decode cX56_trend 33 = .ok (.iadd, 1) := dk_96 (dk_at dksX56_trend_1 9 rfl rfl)
theorem dX56_trend_34 : decode cX56_trend 34 = .ok (.iaload, 1) := dk_46 (dk_at dksX56_trend_1 10 rfl rfl)
theorem dX56_trend_35 : decode cX56_trend 35 = .ok (.ifCond .ne 5, 3) := dk_154 0 5 (dk_at dksX56_trend_1 11 rfl rfl)
theorem dX56_trend_38 : decode cX56_trend 38 = .ok (.iconst (-1), 1) := dk_2 (dk_at dksX56_trend_1 14 rfl rfl)
theorem dX56_trend_39 : decode cX56_trend 39 = .ok (.ireturn, 1) := dk_172 (dk_at dksX56_trend_1 15 rfl rfl)
theorem dX56_trend_40 : decode cX56_trend 40 = .ok (.aload_n 0, 1) := dk_42 (dk_at dksX56_trend_1 16 rfl rfl)
theorem dX56_trend_41 : decode cX56_trend 41 = .ok (.iload_n 1, 1) := dk_27 (dk_at dksX56_trend_1 17 rfl rfl)
theorem dX56_trend_42 : decode cX56_trend 42 = .ok (.invokevirtual 145, 3) := dk_182 0 145 (dk_at dksX56_trend_1 18 rfl rfl)
theorem dX56_trend_45 : decode cX56_trend 45 = .ok (.aload_n 0, 1) := dk_42 (dk_at dksX56_trend_1 21 rfl rfl)
theorem dX56_trend_46 : decode cX56_trend 46 = .ok (.iload_n 1, 1) := dk_27 (dk_at dksX56_trend_1 22 rfl rfl)
theorem dX56_trend_47 : decode cX56_trend 47 = .ok (.iconst 1, 1) := dk_4 (dk_at dksX56_trend_1 23 rfl rfl)
theorem dX56_trend_48 : decode cX56_trend 48 = .ok (.iadd, 1) := dk_96 (dk_at dksX56_trend_2 0 rfl rfl)
theorem dX56_trend_49 : decode cX56_trend 49 = .ok (.invokevirtual 149, 3) := dk_182 0 149 (dk_at dksX56_trend_2 1 rfl rfl)
theorem dX56_trend_52 : decode cX56_trend 52 = .ok (.lmul, 1) := dk_105 (dk_at dksX56_trend_2 4 rfl rfl)
theorem dX56_trend_53 : decode cX56_trend 53 = .ok (.lstore_n 2, 1) := dk_65 (dk_at dksX56_trend_2 5 rfl rfl)
theorem dX56_trend_54 : decode cX56_trend 54 = .ok (.aload_n 0, 1) := dk_42 (dk_at dksX56_trend_2 6 rfl rfl)
theorem dX56_trend_55 : decode cX56_trend 55 = .ok (.iload_n 1, 1) := dk_27 (dk_at dksX56_trend_2 7 rfl rfl)
theorem dX56_trend_56 : decode cX56_trend 56 = .ok (.iconst 1, 1) := dk_4 (dk_at dksX56_trend_2 8 rfl rfl)
theorem dX56_trend_57 : decode cX56_trend 57 = .ok (.iadd, 1) := dk_96 (dk_at dksX56_trend_2 9 rfl rfl)
theorem dX56_trend_58 : decode cX56_trend 58 = .ok (.invokevirtual 145, 3) := dk_182 0 145 (dk_at dksX56_trend_2 10 rfl rfl)
theorem dX56_trend_61 : decode cX56_trend 61 = .ok (.aload_n 0, 1) := dk_42 (dk_at dksX56_trend_2 13 rfl rfl)
theorem dX56_trend_62 : decode cX56_trend 62 = .ok (.iload_n 1, 1) := dk_27 (dk_at dksX56_trend_2 14 rfl rfl)
theorem dX56_trend_63 : decode cX56_trend 63 = .ok (.invokevirtual 149, 3) := dk_182 0 149 (dk_at dksX56_trend_2 15 rfl rfl)
theorem dX56_trend_66 : decode cX56_trend 66 = .ok (.lmul, 1) := dk_105 (dk_at dksX56_trend_2 18 rfl rfl)
theorem dX56_trend_67 : decode cX56_trend 67 = .ok (.lstore 4, 2) := dk_55 4 (dk_at dksX56_trend_2 19 rfl rfl)
theorem dX56_trend_69 : decode cX56_trend 69 = .ok (.lload 4, 2) := dk_22 4 (dk_at dksX56_trend_2 21 rfl rfl)
theorem dX56_trend_71 : decode cX56_trend 71 = .ok (.lload_n 2, 1) := dk_32 (dk_at dksX56_trend_2 23 rfl rfl)
theorem dX56_trend_72 : decode cX56_trend 72 = .ok (.lcmp, 1) := dk_148 (dk_at dksX56_trend_3 0 rfl rfl)
theorem dX56_trend_73 : decode cX56_trend 73 = .ok (.ifCond .le 7, 3) := dk_158 0 7 (dk_at dksX56_trend_3 1 rfl rfl)
theorem dX56_trend_76 : decode cX56_trend 76 = .ok (.iconst 1, 1) := dk_4 (dk_at dksX56_trend_3 4 rfl rfl)
theorem dX56_trend_77 : decode cX56_trend 77 = .ok (.goto 15, 3) := dk_167 0 15 (dk_at dksX56_trend_3 5 rfl rfl)
theorem dX56_trend_80 : decode cX56_trend 80 = .ok (.lload 4, 2) := dk_22 4 (dk_at dksX56_trend_3 8 rfl rfl)
theorem dX56_trend_82 : decode cX56_trend 82 = .ok (.lload_n 2, 1) := dk_32 (dk_at dksX56_trend_3 10 rfl rfl)
theorem dX56_trend_83 : decode cX56_trend 83 = .ok (.lcmp, 1) := dk_148 (dk_at dksX56_trend_3 11 rfl rfl)
theorem dX56_trend_84 : decode cX56_trend 84 = .ok (.ifCond .ge 7, 3) := dk_156 0 7 (dk_at dksX56_trend_3 12 rfl rfl)
theorem dX56_trend_87 : decode cX56_trend 87 = .ok (.iconst 2, 1) := dk_5 (dk_at dksX56_trend_3 15 rfl rfl)
theorem dX56_trend_88 : decode cX56_trend 88 = .ok (.goto 4, 3) := dk_167 0 4 (dk_at dksX56_trend_3 16 rfl rfl)
theorem dX56_trend_91 : decode cX56_trend 91 = .ok (.iconst 0, 1) := dk_3 (dk_at dksX56_trend_3 19 rfl rfl)
theorem dX56_trend_92 : decode cX56_trend 92 = .ok (.ireturn, 1) := dk_172 (dk_at dksX56_trend_3 20 rfl rfl)
theorem q462 : (Jvm.Cond.initialized "WasteHouseModel$PurityOddsModel") ∈ lw_all := lw_g (lw_at lw_m1 70 rfl) rfl
theorem q2030 : (Jvm.Cond.selects "WasteHouseModel$PurityOddsModel" ({ cls := "java/lang/Object", name := "getClass", desc := "()Ljava/lang/Class;" } : Jvm.MethodName) ({ cls := "java/lang/Object", name := "getClass", desc := "()Ljava/lang/Class;" } : Jvm.MethodName)) ∈ lw_all := lw_g (lw_at lw_m7 198 rfl) rfl
theorem q3140 : (Jvm.Cond.selects "WasteHouseModel$PurityOddsModel" ({ cls := "java/lang/Object", name := "equals", desc := "(Ljava/lang/Object;)Z" } : Jvm.MethodName) ({ cls := "java/lang/Object", name := "equals", desc := "(Ljava/lang/Object;)Z" } : Jvm.MethodName)) ∈ lw_all := lw_g (lw_at lw_m12 108 rfl) rfl
theorem q3658 : (Jvm.Cond.selects "WasteHouseModel$PurityOddsModel" ({ cls := "java/lang/Object", name := "hashCode", desc := "()I" } : Jvm.MethodName) ({ cls := "java/lang/Object", name := "hashCode", desc := "()I" } : Jvm.MethodName)) ∈ lw_all := lw_g (lw_at lw_m14 146 rfl) rfl
theorem q7327 : (Jvm.Cond.instantiable "WasteHouseModel$PurityOddsModel" (24 : Nat)) ∈ lw_all := lw_g (lw_at lw_m29 215 rfl) rfl
theorem q7329 : (Jvm.Cond.instanceMethod ({ cls := "WasteHouseModel$PurityOddsModel", name := "<init>", desc := "(J)V" } : Jvm.MethodName)) ∈ lw_all := lw_g (lw_at lw_m29 217 rfl) rfl
theorem q7330 : (Jvm.Cond.code ({ cls := "WasteHouseModel$PurityOddsModel", name := "<init>", desc := "(J)V" } : Jvm.MethodName) prog_62_method_1_code (3 : Nat) (Option.none : Option Jvm.ClassFile.FieldType)) ∈ lw_all := lw_g (lw_at lw_m29 218 rfl) rfl
theorem q7331 : (Jvm.Cond.methodLink "WasteHouseModel$PurityOddsModel" (1 : Nat) ({ cls := "java/lang/Object", name := "<init>", desc := "()V" } : Jvm.MethodName)) ∈ lw_all := lw_g (lw_at lw_m29 219 rfl) rfl
theorem q7332 : (Jvm.Cond.fieldLink "WasteHouseModel$PurityOddsModel" (62 : Nat) "WasteHouseModel$PurityOddsModel" "seed" "J") ∈ lw_all := lw_g (lw_at lw_m29 220 rfl) rfl
theorem q7333 : (Jvm.Cond.fieldLink "WasteHouseModel$PurityOddsModel" (72 : Nat) "WasteHouseModel$PurityOddsModel" "plans" "I") ∈ lw_all := lw_g (lw_at lw_m29 221 rfl) rfl
theorem q7334 : (Jvm.Cond.fieldLink "WasteHouseModel$PurityOddsModel" (7 : Nat) "WasteHouseModel$PurityOddsModel" "sizes" "[I") ∈ lw_all := lw_g (lw_at lw_m29 222 rfl) rfl
theorem q7335 : (Jvm.Cond.fieldLink "WasteHouseModel$PurityOddsModel" (13 : Nat) "WasteHouseModel$PurityOddsModel" "mosts" "[I") ∈ lw_all := lw_g (lw_at lw_m29 223 rfl) rfl
theorem q7336 : (Jvm.Cond.fieldLink "WasteHouseModel$PurityOddsModel" (16 : Nat) "WasteHouseModel$PurityOddsModel" "shares" "[I") ∈ lw_all := lw_g (lw_at lw_m29 224 rfl) rfl
theorem q7337 : (Jvm.Cond.fieldLink "WasteHouseModel$PurityOddsModel" (104 : Nat) "WasteHouseModel$PurityOddsModel" "hasShares" "Z") ∈ lw_all := lw_g (lw_at lw_m29 225 rfl) rfl
theorem q7338 : (Jvm.Cond.fieldLink "WasteHouseModel$PurityOddsModel" (116 : Nat) "WasteHouseModel$PurityOddsModel" "lots" "I") ∈ lw_all := lw_g (lw_at lw_m29 226 rfl) rfl
theorem q7339 : (Jvm.Cond.fieldLink "WasteHouseModel$PurityOddsModel" (19 : Nat) "WasteHouseModel$PurityOddsModel" "weights" "[J") ∈ lw_all := lw_g (lw_at lw_m29 227 rfl) rfl
theorem q7341 : (Jvm.Cond.fieldLink "WasteHouseModel$PurityOddsModel" (23 : Nat) "WasteHouseModel$PurityOddsModel" "pieces" "[I") ∈ lw_all := lw_g (lw_at lw_m29 229 rfl) rfl
theorem q7342 : (Jvm.Cond.fieldLink "WasteHouseModel$PurityOddsModel" (26 : Nat) "WasteHouseModel$PurityOddsModel" "kinds" "[I") ∈ lw_all := lw_g (lw_at lw_m29 230 rfl) rfl
theorem q7343 : (Jvm.Cond.fieldLink "WasteHouseModel$PurityOddsModel" (29 : Nat) "WasteHouseModel$PurityOddsModel" "grams" "[J") ∈ lw_all := lw_g (lw_at lw_m29 231 rfl) rfl
theorem q7344 : (Jvm.Cond.fieldLink "WasteHouseModel$PurityOddsModel" (32 : Nat) "WasteHouseModel$PurityOddsModel" "judgedAbove" "[I") ∈ lw_all := lw_g (lw_at lw_m29 232 rfl) rfl
theorem q7345 : (Jvm.Cond.fieldLink "WasteHouseModel$PurityOddsModel" (35 : Nat) "WasteHouseModel$PurityOddsModel" "judgedBelow" "[I") ∈ lw_all := lw_g (lw_at lw_m29 233 rfl) rfl
theorem q7346 : (Jvm.Cond.fieldLink "WasteHouseModel$PurityOddsModel" (38 : Nat) "WasteHouseModel$PurityOddsModel" "rows" "[I") ∈ lw_all := lw_g (lw_at lw_m29 234 rfl) rfl
theorem q7347 : (Jvm.Cond.fieldLink "WasteHouseModel$PurityOddsModel" (41 : Nat) "WasteHouseModel$PurityOddsModel" "hours" "[J") ∈ lw_all := lw_g (lw_at lw_m29 235 rfl) rfl
theorem q7348 : (Jvm.Cond.fieldLink "WasteHouseModel$PurityOddsModel" (44 : Nat) "WasteHouseModel$PurityOddsModel" "dried" "[J") ∈ lw_all := lw_g (lw_at lw_m29 236 rfl) rfl
theorem q7349 : (Jvm.Cond.fieldLink "WasteHouseModel$PurityOddsModel" (135 : Nat) "WasteHouseModel$PurityOddsModel" "steps" "I") ∈ lw_all := lw_g (lw_at lw_m29 237 rfl) rfl
theorem q7350 : (Jvm.Cond.fieldLink "WasteHouseModel$PurityOddsModel" (47 : Nat) "WasteHouseModel$PurityOddsModel" "stepAbove" "[I") ∈ lw_all := lw_g (lw_at lw_m29 238 rfl) rfl
theorem q7351 : (Jvm.Cond.fieldLink "WasteHouseModel$PurityOddsModel" (50 : Nat) "WasteHouseModel$PurityOddsModel" "stepBelow" "[I") ∈ lw_all := lw_g (lw_at lw_m29 239 rfl) rfl
theorem q7352 : (Jvm.Cond.fieldLink "WasteHouseModel$PurityOddsModel" (53 : Nat) "WasteHouseModel$PurityOddsModel" "stepCents" "[I") ∈ lw_all := lw_g (lw_at lw_m30 0 rfl) rfl
theorem q7353 : (Jvm.Cond.fieldLink "WasteHouseModel$PurityOddsModel" (56 : Nat) "WasteHouseModel$PurityOddsModel" "ways" "[J") ∈ lw_all := lw_g (lw_at lw_m30 1 rfl) rfl
theorem q7354 : (Jvm.Cond.fieldLink "WasteHouseModel$PurityOddsModel" (59 : Nat) "WasteHouseModel$PurityOddsModel" "order" "[I") ∈ lw_all := lw_g (lw_at lw_m30 2 rfl) rfl
theorem q7355 : (Jvm.Cond.fieldLink "WasteHouseModel$PurityOddsModel" (97 : Nat) "WasteHouseModel$PurityOddsModel" "over" "J") ∈ lw_all := lw_g (lw_at lw_m30 3 rfl) rfl
theorem q7356 : (Jvm.Cond.fieldLink "WasteHouseModel$PurityOddsModel" (94 : Nat) "WasteHouseModel$PurityOddsModel" "under" "J") ∈ lw_all := lw_g (lw_at lw_m30 4 rfl) rfl
theorem q7357 : (Jvm.Cond.laysFinal "WasteHouseModel$PurityOddsModel" "WasteHouseModel$PurityOddsModel" "seed" "J") ∈ lw_all := lw_g (lw_at lw_m30 5 rfl) rfl
theorem q7358 : (Jvm.Cond.soleField "WasteHouseModel$PurityOddsModel" "seed") ∈ lw_all := lw_g (lw_at lw_m30 6 rfl) rfl
theorem q7359 : (Jvm.Cond.lays "WasteHouseModel$PurityOddsModel" "WasteHouseModel$PurityOddsModel" "plans" "I") ∈ lw_all := lw_g (lw_at lw_m30 7 rfl) rfl
theorem q7360 : (Jvm.Cond.soleField "WasteHouseModel$PurityOddsModel" "plans") ∈ lw_all := lw_g (lw_at lw_m30 8 rfl) rfl
theorem q7361 : (Jvm.Cond.laysFinal "WasteHouseModel$PurityOddsModel" "WasteHouseModel$PurityOddsModel" "sizes" "[I") ∈ lw_all := lw_g (lw_at lw_m30 9 rfl) rfl
theorem q7362 : (Jvm.Cond.soleField "WasteHouseModel$PurityOddsModel" "sizes") ∈ lw_all := lw_g (lw_at lw_m30 10 rfl) rfl
theorem q7363 : (Jvm.Cond.laysFinal "WasteHouseModel$PurityOddsModel" "WasteHouseModel$PurityOddsModel" "mosts" "[I") ∈ lw_all := lw_g (lw_at lw_m30 11 rfl) rfl
theorem q7364 : (Jvm.Cond.soleField "WasteHouseModel$PurityOddsModel" "mosts") ∈ lw_all := lw_g (lw_at lw_m30 12 rfl) rfl
theorem q7365 : (Jvm.Cond.laysFinal "WasteHouseModel$PurityOddsModel" "WasteHouseModel$PurityOddsModel" "shares" "[I") ∈ lw_all := lw_g (lw_at lw_m30 13 rfl) rfl
theorem q7366 : (Jvm.Cond.soleField "WasteHouseModel$PurityOddsModel" "shares") ∈ lw_all := lw_g (lw_at lw_m30 14 rfl) rfl
theorem q7367 : (Jvm.Cond.lays "WasteHouseModel$PurityOddsModel" "WasteHouseModel$PurityOddsModel" "hasShares" "Z") ∈ lw_all := lw_g (lw_at lw_m30 15 rfl) rfl
theorem q7368 : (Jvm.Cond.soleField "WasteHouseModel$PurityOddsModel" "hasShares") ∈ lw_all := lw_g (lw_at lw_m30 16 rfl) rfl
theorem q7369 : (Jvm.Cond.lays "WasteHouseModel$PurityOddsModel" "WasteHouseModel$PurityOddsModel" "lots" "I") ∈ lw_all := lw_g (lw_at lw_m30 17 rfl) rfl
theorem q7370 : (Jvm.Cond.soleField "WasteHouseModel$PurityOddsModel" "lots") ∈ lw_all := lw_g (lw_at lw_m30 18 rfl) rfl
theorem q7371 : (Jvm.Cond.laysFinal "WasteHouseModel$PurityOddsModel" "WasteHouseModel$PurityOddsModel" "weights" "[J") ∈ lw_all := lw_g (lw_at lw_m30 19 rfl) rfl
theorem q7372 : (Jvm.Cond.soleField "WasteHouseModel$PurityOddsModel" "weights") ∈ lw_all := lw_g (lw_at lw_m30 20 rfl) rfl
theorem q7373 : (Jvm.Cond.laysFinal "WasteHouseModel$PurityOddsModel" "WasteHouseModel$PurityOddsModel" "pieces" "[I") ∈ lw_all := lw_g (lw_at lw_m30 21 rfl) rfl
theorem q7374 : (Jvm.Cond.soleField "WasteHouseModel$PurityOddsModel" "pieces") ∈ lw_all := lw_g (lw_at lw_m30 22 rfl) rfl
theorem q7375 : (Jvm.Cond.laysFinal "WasteHouseModel$PurityOddsModel" "WasteHouseModel$PurityOddsModel" "kinds" "[I") ∈ lw_all := lw_g (lw_at lw_m30 23 rfl) rfl
theorem q7376 : (Jvm.Cond.soleField "WasteHouseModel$PurityOddsModel" "kinds") ∈ lw_all := lw_g (lw_at lw_m30 24 rfl) rfl
theorem q7377 : (Jvm.Cond.laysFinal "WasteHouseModel$PurityOddsModel" "WasteHouseModel$PurityOddsModel" "grams" "[J") ∈ lw_all := lw_g (lw_at lw_m30 25 rfl) rfl
theorem q7378 : (Jvm.Cond.soleField "WasteHouseModel$PurityOddsModel" "grams") ∈ lw_all := lw_g (lw_at lw_m30 26 rfl) rfl
theorem q7379 : (Jvm.Cond.laysFinal "WasteHouseModel$PurityOddsModel" "WasteHouseModel$PurityOddsModel" "judgedAbove" "[I") ∈ lw_all := lw_g (lw_at lw_m30 27 rfl) rfl
theorem q7380 : (Jvm.Cond.soleField "WasteHouseModel$PurityOddsModel" "judgedAbove") ∈ lw_all := lw_g (lw_at lw_m30 28 rfl) rfl
theorem q7381 : (Jvm.Cond.laysFinal "WasteHouseModel$PurityOddsModel" "WasteHouseModel$PurityOddsModel" "judgedBelow" "[I") ∈ lw_all := lw_g (lw_at lw_m30 29 rfl) rfl
theorem q7382 : (Jvm.Cond.soleField "WasteHouseModel$PurityOddsModel" "judgedBelow") ∈ lw_all := lw_g (lw_at lw_m30 30 rfl) rfl
theorem q7383 : (Jvm.Cond.laysFinal "WasteHouseModel$PurityOddsModel" "WasteHouseModel$PurityOddsModel" "rows" "[I") ∈ lw_all := lw_g (lw_at lw_m30 31 rfl) rfl
theorem q7384 : (Jvm.Cond.soleField "WasteHouseModel$PurityOddsModel" "rows") ∈ lw_all := lw_g (lw_at lw_m30 32 rfl) rfl
theorem q7385 : (Jvm.Cond.laysFinal "WasteHouseModel$PurityOddsModel" "WasteHouseModel$PurityOddsModel" "hours" "[J") ∈ lw_all := lw_g (lw_at lw_m30 33 rfl) rfl
theorem q7386 : (Jvm.Cond.soleField "WasteHouseModel$PurityOddsModel" "hours") ∈ lw_all := lw_g (lw_at lw_m30 34 rfl) rfl
theorem q7387 : (Jvm.Cond.laysFinal "WasteHouseModel$PurityOddsModel" "WasteHouseModel$PurityOddsModel" "dried" "[J") ∈ lw_all := lw_g (lw_at lw_m30 35 rfl) rfl
theorem q7388 : (Jvm.Cond.soleField "WasteHouseModel$PurityOddsModel" "dried") ∈ lw_all := lw_g (lw_at lw_m30 36 rfl) rfl
theorem q7389 : (Jvm.Cond.lays "WasteHouseModel$PurityOddsModel" "WasteHouseModel$PurityOddsModel" "steps" "I") ∈ lw_all := lw_g (lw_at lw_m30 37 rfl) rfl
theorem q7390 : (Jvm.Cond.soleField "WasteHouseModel$PurityOddsModel" "steps") ∈ lw_all := lw_g (lw_at lw_m30 38 rfl) rfl
theorem q7391 : (Jvm.Cond.laysFinal "WasteHouseModel$PurityOddsModel" "WasteHouseModel$PurityOddsModel" "stepAbove" "[I") ∈ lw_all := lw_g (lw_at lw_m30 39 rfl) rfl
theorem q7392 : (Jvm.Cond.soleField "WasteHouseModel$PurityOddsModel" "stepAbove") ∈ lw_all := lw_g (lw_at lw_m30 40 rfl) rfl
theorem q7393 : (Jvm.Cond.laysFinal "WasteHouseModel$PurityOddsModel" "WasteHouseModel$PurityOddsModel" "stepBelow" "[I") ∈ lw_all := lw_g (lw_at lw_m30 41 rfl) rfl
theorem q7394 : (Jvm.Cond.soleField "WasteHouseModel$PurityOddsModel" "stepBelow") ∈ lw_all := lw_g (lw_at lw_m30 42 rfl) rfl
theorem q7395 : (Jvm.Cond.laysFinal "WasteHouseModel$PurityOddsModel" "WasteHouseModel$PurityOddsModel" "stepCents" "[I") ∈ lw_all := lw_g (lw_at lw_m30 43 rfl) rfl
theorem q7396 : (Jvm.Cond.soleField "WasteHouseModel$PurityOddsModel" "stepCents") ∈ lw_all := lw_g (lw_at lw_m30 44 rfl) rfl
theorem q7397 : (Jvm.Cond.laysFinal "WasteHouseModel$PurityOddsModel" "WasteHouseModel$PurityOddsModel" "ways" "[J") ∈ lw_all := lw_g (lw_at lw_m30 45 rfl) rfl
theorem q7398 : (Jvm.Cond.soleField "WasteHouseModel$PurityOddsModel" "ways") ∈ lw_all := lw_g (lw_at lw_m30 46 rfl) rfl
theorem q7399 : (Jvm.Cond.laysFinal "WasteHouseModel$PurityOddsModel" "WasteHouseModel$PurityOddsModel" "order" "[I") ∈ lw_all := lw_g (lw_at lw_m30 47 rfl) rfl
theorem q7400 : (Jvm.Cond.soleField "WasteHouseModel$PurityOddsModel" "order") ∈ lw_all := lw_g (lw_at lw_m30 48 rfl) rfl
theorem q7401 : (Jvm.Cond.lays "WasteHouseModel$PurityOddsModel" "WasteHouseModel$PurityOddsModel" "over" "J") ∈ lw_all := lw_g (lw_at lw_m30 49 rfl) rfl
theorem q7402 : (Jvm.Cond.soleField "WasteHouseModel$PurityOddsModel" "over") ∈ lw_all := lw_g (lw_at lw_m30 50 rfl) rfl
theorem q7403 : (Jvm.Cond.lays "WasteHouseModel$PurityOddsModel" "WasteHouseModel$PurityOddsModel" "under" "J") ∈ lw_all := lw_g (lw_at lw_m30 51 rfl) rfl
theorem q7404 : (Jvm.Cond.soleField "WasteHouseModel$PurityOddsModel" "under") ∈ lw_all := lw_g (lw_at lw_m30 52 rfl) rfl
theorem q7405 : (Jvm.Cond.superclass "WasteHouseModel$PurityOddsModel" "java/lang/Object") ∈ lw_all := lw_g (lw_at lw_m30 53 rfl) rfl
theorem q7897 : (Jvm.Cond.instanceMethod ({ cls := "WasteHouseModel$PurityOddsModel", name := "lot", desc := "(J)I" } : Jvm.MethodName)) ∈ lw_all := lw_g (lw_at lw_m32 65 rfl) rfl
theorem q7898 : (Jvm.Cond.selects "WasteHouseModel$PurityOddsModel" ({ cls := "WasteHouseModel$PurityOddsModel", name := "lot", desc := "(J)I" } : Jvm.MethodName) ({ cls := "WasteHouseModel$PurityOddsModel", name := "lot", desc := "(J)I" } : Jvm.MethodName)) ∈ lw_all := lw_g (lw_at lw_m32 66 rfl) rfl
theorem q7899 : (Jvm.Cond.code ({ cls := "WasteHouseModel$PurityOddsModel", name := "lot", desc := "(J)I" } : Jvm.MethodName) prog_62_method_15_code (3 : Nat) (Option.some Jvm.ClassFile.FieldType.int)) ∈ lw_all := lw_g (lw_at lw_m32 67 rfl) rfl
theorem q7900 : (Jvm.Cond.constantLong "WasteHouseModel$PurityOddsModel" (119 : Nat) (1000000000 : Int64)) ∈ lw_all := lw_g (lw_at lw_m32 68 rfl) rfl
theorem q7902 : (Jvm.Cond.instanceMethod ({ cls := "WasteHouseModel$PurityOddsModel", name := "piece", desc := "(IIJ)Z" } : Jvm.MethodName)) ∈ lw_all := lw_g (lw_at lw_m32 70 rfl) rfl
theorem q7903 : (Jvm.Cond.selects "WasteHouseModel$PurityOddsModel" ({ cls := "WasteHouseModel$PurityOddsModel", name := "piece", desc := "(IIJ)Z" } : Jvm.MethodName) ({ cls := "WasteHouseModel$PurityOddsModel", name := "piece", desc := "(IIJ)Z" } : Jvm.MethodName)) ∈ lw_all := lw_g (lw_at lw_m32 71 rfl) rfl
theorem q7904 : (Jvm.Cond.code ({ cls := "WasteHouseModel$PurityOddsModel", name := "piece", desc := "(IIJ)Z" } : Jvm.MethodName) prog_62_method_16_code (5 : Nat) (Option.some Jvm.ClassFile.FieldType.boolean)) ∈ lw_all := lw_g (lw_at lw_m32 72 rfl) rfl
theorem q7905 : (Jvm.Cond.methodLink "WasteHouseModel$PurityOddsModel" (121 : Nat) ({ cls := "WasteHouseModel$PurityOddsModel", name := "isLot", desc := "(I)Z" } : Jvm.MethodName)) ∈ lw_all := lw_g (lw_at lw_m32 73 rfl) rfl
theorem q7906 : (Jvm.Cond.privateMethod ({ cls := "WasteHouseModel$PurityOddsModel", name := "isLot", desc := "(I)Z" } : Jvm.MethodName)) ∈ lw_tbl := lw_at lw_m32 74 rfl
theorem q7907 : (Jvm.Cond.instanceMethod ({ cls := "WasteHouseModel$PurityOddsModel", name := "isLot", desc := "(I)Z" } : Jvm.MethodName)) ∈ lw_all := lw_g (lw_at lw_m32 75 rfl) rfl
theorem q7908 : (Jvm.Cond.code ({ cls := "WasteHouseModel$PurityOddsModel", name := "isLot", desc := "(I)Z" } : Jvm.MethodName) prog_62_method_14_code (2 : Nat) (Option.some Jvm.ClassFile.FieldType.boolean)) ∈ lw_all := lw_g (lw_at lw_m32 76 rfl) rfl
theorem q7909 : (Jvm.Cond.constantLong "WasteHouseModel$PurityOddsModel" (125 : Nat) (1000000 : Int64)) ∈ lw_all := lw_g (lw_at lw_m32 77 rfl) rfl
theorem q7917 : (Jvm.Cond.instanceMethod ({ cls := "WasteHouseModel$PurityOddsModel", name := "price", desc := "(I)J" } : Jvm.MethodName)) ∈ lw_all := lw_g (lw_at lw_m32 85 rfl) rfl
theorem q7918 : (Jvm.Cond.selects "WasteHouseModel$PurityOddsModel" ({ cls := "WasteHouseModel$PurityOddsModel", name := "price", desc := "(I)J" } : Jvm.MethodName) ({ cls := "WasteHouseModel$PurityOddsModel", name := "price", desc := "(I)J" } : Jvm.MethodName)) ∈ lw_all := lw_g (lw_at lw_m32 86 rfl) rfl
theorem q7919 : (Jvm.Cond.code ({ cls := "WasteHouseModel$PurityOddsModel", name := "price", desc := "(I)J" } : Jvm.MethodName) prog_62_method_26_code (3 : Nat) (Option.some Jvm.ClassFile.FieldType.long)) ∈ lw_all := lw_g (lw_at lw_m32 87 rfl) rfl
theorem q7920 : (Jvm.Cond.constantLong "WasteHouseModel$PurityOddsModel" (70 : Nat) (-1 : Int64)) ∈ lw_all := lw_g (lw_at lw_m32 88 rfl) rfl
theorem q7921 : (Jvm.Cond.methodLink "WasteHouseModel$PurityOddsModel" (145 : Nat) ({ cls := "WasteHouseModel$PurityOddsModel", name := "pureAbove", desc := "(I)J" } : Jvm.MethodName)) ∈ lw_all := lw_g (lw_at lw_m32 89 rfl) rfl
theorem q7922 : (Jvm.Cond.privateMethod ({ cls := "WasteHouseModel$PurityOddsModel", name := "pureAbove", desc := "(I)J" } : Jvm.MethodName)) ∈ lw_tbl := lw_at lw_m32 90 rfl
theorem q7923 : (Jvm.Cond.instanceMethod ({ cls := "WasteHouseModel$PurityOddsModel", name := "pureAbove", desc := "(I)J" } : Jvm.MethodName)) ∈ lw_all := lw_g (lw_at lw_m32 91 rfl) rfl
theorem q7924 : (Jvm.Cond.code ({ cls := "WasteHouseModel$PurityOddsModel", name := "pureAbove", desc := "(I)J" } : Jvm.MethodName) prog_62_method_24_code (2 : Nat) (Option.some Jvm.ClassFile.FieldType.long)) ∈ lw_all := lw_g (lw_at lw_m32 92 rfl) rfl
theorem q7925 : (Jvm.Cond.methodLink "WasteHouseModel$PurityOddsModel" (142 : Nat) ({ cls := "WasteHouseModel$PurityOddsModel", name := "isJudged", desc := "(I)Z" } : Jvm.MethodName)) ∈ lw_all := lw_g (lw_at lw_m32 93 rfl) rfl
theorem q7926 : (Jvm.Cond.privateMethod ({ cls := "WasteHouseModel$PurityOddsModel", name := "isJudged", desc := "(I)Z" } : Jvm.MethodName)) ∈ lw_tbl := lw_at lw_m32 94 rfl
theorem q7927 : (Jvm.Cond.instanceMethod ({ cls := "WasteHouseModel$PurityOddsModel", name := "isJudged", desc := "(I)Z" } : Jvm.MethodName)) ∈ lw_all := lw_g (lw_at lw_m32 95 rfl) rfl
theorem q7928 : (Jvm.Cond.code ({ cls := "WasteHouseModel$PurityOddsModel", name := "isJudged", desc := "(I)Z" } : Jvm.MethodName) prog_62_method_23_code (2 : Nat) (Option.some Jvm.ClassFile.FieldType.boolean)) ∈ lw_all := lw_g (lw_at lw_m32 96 rfl) rfl
theorem q7929 : (Jvm.Cond.methodLink "WasteHouseModel$PurityOddsModel" (127 : Nat) ({ cls := "WasteHouseModel$PurityOddsModel", name := "sumOf", desc := "(III)J" } : Jvm.MethodName)) ∈ lw_all := lw_g (lw_at lw_m32 97 rfl) rfl
theorem q7930 : (Jvm.Cond.privateMethod ({ cls := "WasteHouseModel$PurityOddsModel", name := "sumOf", desc := "(III)J" } : Jvm.MethodName)) ∈ lw_tbl := lw_at lw_m32 98 rfl
theorem q7931 : (Jvm.Cond.instanceMethod ({ cls := "WasteHouseModel$PurityOddsModel", name := "sumOf", desc := "(III)J" } : Jvm.MethodName)) ∈ lw_all := lw_g (lw_at lw_m32 99 rfl) rfl
theorem q7932 : (Jvm.Cond.code ({ cls := "WasteHouseModel$PurityOddsModel", name := "sumOf", desc := "(III)J" } : Jvm.MethodName) prog_62_method_17_code (8 : Nat) (Option.some Jvm.ClassFile.FieldType.long)) ∈ lw_all := lw_g (lw_at lw_m32 100 rfl) rfl
theorem q7933 : (Jvm.Cond.methodLink "WasteHouseModel$PurityOddsModel" (149 : Nat) ({ cls := "WasteHouseModel$PurityOddsModel", name := "pureBelow", desc := "(I)J" } : Jvm.MethodName)) ∈ lw_all := lw_g (lw_at lw_m32 101 rfl) rfl
theorem q7934 : (Jvm.Cond.privateMethod ({ cls := "WasteHouseModel$PurityOddsModel", name := "pureBelow", desc := "(I)J" } : Jvm.MethodName)) ∈ lw_tbl := lw_at lw_m32 102 rfl
theorem q7935 : (Jvm.Cond.instanceMethod ({ cls := "WasteHouseModel$PurityOddsModel", name := "pureBelow", desc := "(I)J" } : Jvm.MethodName)) ∈ lw_all := lw_g (lw_at lw_m32 103 rfl) rfl
theorem q7936 : (Jvm.Cond.code ({ cls := "WasteHouseModel$PurityOddsModel", name := "pureBelow", desc := "(I)J" } : Jvm.MethodName) prog_62_method_25_code (2 : Nat) (Option.some Jvm.ClassFile.FieldType.long)) ∈ lw_all := lw_g (lw_at lw_m32 104 rfl) rfl
theorem q7937 : (Jvm.Cond.methodLink "WasteHouseModel$PurityOddsModel" (152 : Nat) ({ cls := "WasteHouseModel$PurityOddsModel", name := "stepOf", desc := "(JJ)I" } : Jvm.MethodName)) ∈ lw_all := lw_g (lw_at lw_m32 105 rfl) rfl
theorem q7938 : (Jvm.Cond.privateMethod ({ cls := "WasteHouseModel$PurityOddsModel", name := "stepOf", desc := "(JJ)I" } : Jvm.MethodName)) ∈ lw_tbl := lw_at lw_m32 106 rfl
theorem q7939 : (Jvm.Cond.instanceMethod ({ cls := "WasteHouseModel$PurityOddsModel", name := "stepOf", desc := "(JJ)I" } : Jvm.MethodName)) ∈ lw_all := lw_g (lw_at lw_m32 107 rfl) rfl
theorem q7940 : (Jvm.Cond.code ({ cls := "WasteHouseModel$PurityOddsModel", name := "stepOf", desc := "(JJ)I" } : Jvm.MethodName) prog_62_method_22_code (7 : Nat) (Option.some Jvm.ClassFile.FieldType.int)) ∈ lw_all := lw_g (lw_at lw_m32 108 rfl) rfl
theorem q7941 : (Jvm.Cond.constantLong "WasteHouseModel$PurityOddsModel" (138 : Nat) (1000 : Int64)) ∈ lw_all := lw_g (lw_at lw_m32 109 rfl) rfl
theorem q7953 : (Jvm.Cond.instanceMethod ({ cls := "WasteHouseModel$PurityOddsModel", name := "share", desc := "(III)J" } : Jvm.MethodName)) ∈ lw_all := lw_g (lw_at lw_m32 121 rfl) rfl
theorem q7954 : (Jvm.Cond.selects "WasteHouseModel$PurityOddsModel" ({ cls := "WasteHouseModel$PurityOddsModel", name := "share", desc := "(III)J" } : Jvm.MethodName) ({ cls := "WasteHouseModel$PurityOddsModel", name := "share", desc := "(III)J" } : Jvm.MethodName)) ∈ lw_all := lw_g (lw_at lw_m32 122 rfl) rfl
theorem q7955 : (Jvm.Cond.code ({ cls := "WasteHouseModel$PurityOddsModel", name := "share", desc := "(III)J" } : Jvm.MethodName) prog_62_method_18_code (4 : Nat) (Option.some Jvm.ClassFile.FieldType.long)) ∈ lw_all := lw_g (lw_at lw_m32 123 rfl) rfl
theorem q7956 : (Jvm.Cond.methodLink "WasteHouseModel$PurityOddsModel" (90 : Nat) ({ cls := "WasteHouseModel$PurityOddsModel", name := "part", desc := "(JJI)J" } : Jvm.MethodName)) ∈ lw_all := lw_g (lw_at lw_m32 124 rfl) rfl
theorem q7957 : (Jvm.Cond.static ({ cls := "WasteHouseModel$PurityOddsModel", name := "part", desc := "(JJI)J" } : Jvm.MethodName)) ∈ lw_all := lw_g (lw_at lw_m32 125 rfl) rfl
theorem q7958 : (Jvm.Cond.code ({ cls := "WasteHouseModel$PurityOddsModel", name := "part", desc := "(JJI)J" } : Jvm.MethodName) prog_62_method_5_code (7 : Nat) (Option.some Jvm.ClassFile.FieldType.long)) ∈ lw_all := lw_g (lw_at lw_m32 126 rfl) rfl
theorem q7959 : (Jvm.Cond.methodLink "WasteHouseModel$PurityOddsModel" (66 : Nat) ({ cls := "WasteHouseModel$PurityOddsModel", name := "common", desc := "(JJ)J" } : Jvm.MethodName)) ∈ lw_all := lw_g (lw_at lw_m32 127 rfl) rfl
theorem q7960 : (Jvm.Cond.static ({ cls := "WasteHouseModel$PurityOddsModel", name := "common", desc := "(JJ)J" } : Jvm.MethodName)) ∈ lw_all := lw_g (lw_at lw_m32 128 rfl) rfl
theorem q7961 : (Jvm.Cond.code ({ cls := "WasteHouseModel$PurityOddsModel", name := "common", desc := "(JJ)J" } : Jvm.MethodName) prog_62_method_4_code (10 : Nat) (Option.some Jvm.ClassFile.FieldType.long)) ∈ lw_all := lw_g (lw_at lw_m32 129 rfl) rfl
theorem q9330 : (Jvm.Cond.instanceMethod ({ cls := "WasteHouseModel$PurityOddsModel", name := "plan", desc := "(II)I" } : Jvm.MethodName)) ∈ lw_all := lw_g (lw_at lw_m38 58 rfl) rfl
theorem q9331 : (Jvm.Cond.selects "WasteHouseModel$PurityOddsModel" ({ cls := "WasteHouseModel$PurityOddsModel", name := "plan", desc := "(II)I" } : Jvm.MethodName) ({ cls := "WasteHouseModel$PurityOddsModel", name := "plan", desc := "(II)I" } : Jvm.MethodName)) ∈ lw_all := lw_g (lw_at lw_m38 59 rfl) rfl
theorem q9332 : (Jvm.Cond.code ({ cls := "WasteHouseModel$PurityOddsModel", name := "plan", desc := "(II)I" } : Jvm.MethodName) prog_62_method_6_code (3 : Nat) (Option.some Jvm.ClassFile.FieldType.int)) ∈ lw_all := lw_g (lw_at lw_m38 60 rfl) rfl
theorem q9336 : (Jvm.Cond.instanceMethod ({ cls := "WasteHouseModel$PurityOddsModel", name := "odds", desc := "(IJJI)J" } : Jvm.MethodName)) ∈ lw_all := lw_g (lw_at lw_m38 64 rfl) rfl
theorem q9337 : (Jvm.Cond.selects "WasteHouseModel$PurityOddsModel" ({ cls := "WasteHouseModel$PurityOddsModel", name := "odds", desc := "(IJJI)J" } : Jvm.MethodName) ({ cls := "WasteHouseModel$PurityOddsModel", name := "odds", desc := "(IJJI)J" } : Jvm.MethodName)) ∈ lw_all := lw_g (lw_at lw_m38 65 rfl) rfl
theorem q9338 : (Jvm.Cond.code ({ cls := "WasteHouseModel$PurityOddsModel", name := "odds", desc := "(IJJI)J" } : Jvm.MethodName) prog_62_method_9_code (7 : Nat) (Option.some Jvm.ClassFile.FieldType.long)) ∈ lw_all := lw_g (lw_at lw_m38 66 rfl) rfl
theorem q9339 : (Jvm.Cond.constantLong "WasteHouseModel$PurityOddsModel" (76 : Nat) (20 : Int64)) ∈ lw_all := lw_g (lw_at lw_m38 67 rfl) rfl
theorem q9340 : (Jvm.Cond.methodLink "WasteHouseModel$PurityOddsModel" (78 : Nat) ({ cls := "WasteHouseModel$PurityOddsModel", name := "isShare", desc := "(JJJ)Z" } : Jvm.MethodName)) ∈ lw_all := lw_g (lw_at lw_m38 68 rfl) rfl
theorem q9341 : (Jvm.Cond.static ({ cls := "WasteHouseModel$PurityOddsModel", name := "isShare", desc := "(JJJ)Z" } : Jvm.MethodName)) ∈ lw_all := lw_g (lw_at lw_m38 69 rfl) rfl
theorem q9342 : (Jvm.Cond.code ({ cls := "WasteHouseModel$PurityOddsModel", name := "isShare", desc := "(JJJ)Z" } : Jvm.MethodName) prog_62_method_3_code (6 : Nat) (Option.some Jvm.ClassFile.FieldType.boolean)) ∈ lw_all := lw_g (lw_at lw_m38 70 rfl) rfl
theorem q9343 : (Jvm.Cond.methodLink "WasteHouseModel$PurityOddsModel" (82 : Nat) ({ cls := "WasteHouseModel$PurityOddsModel", name := "passing", desc := "(IIII)J" } : Jvm.MethodName)) ∈ lw_all := lw_g (lw_at lw_m38 71 rfl) rfl
theorem q9344 : (Jvm.Cond.privateMethod ({ cls := "WasteHouseModel$PurityOddsModel", name := "passing", desc := "(IIII)J" } : Jvm.MethodName)) ∈ lw_tbl := lw_at lw_m38 72 rfl
theorem q9345 : (Jvm.Cond.instanceMethod ({ cls := "WasteHouseModel$PurityOddsModel", name := "passing", desc := "(IIII)J" } : Jvm.MethodName)) ∈ lw_all := lw_g (lw_at lw_m38 73 rfl) rfl
theorem q9346 : (Jvm.Cond.code ({ cls := "WasteHouseModel$PurityOddsModel", name := "passing", desc := "(IIII)J" } : Jvm.MethodName) prog_62_method_7_code (8 : Nat) (Option.some Jvm.ClassFile.FieldType.long)) ∈ lw_all := lw_g (lw_at lw_m38 74 rfl) rfl
theorem q9347 : (Jvm.Cond.methodLink "WasteHouseModel$PurityOddsModel" (86 : Nat) ({ cls := "WasteHouseModel$PurityOddsModel", name := "power", desc := "(II)J" } : Jvm.MethodName)) ∈ lw_all := lw_g (lw_at lw_m38 75 rfl) rfl
theorem q9348 : (Jvm.Cond.static ({ cls := "WasteHouseModel$PurityOddsModel", name := "power", desc := "(II)J" } : Jvm.MethodName)) ∈ lw_all := lw_g (lw_at lw_m38 76 rfl) rfl
theorem q9349 : (Jvm.Cond.code ({ cls := "WasteHouseModel$PurityOddsModel", name := "power", desc := "(II)J" } : Jvm.MethodName) prog_62_method_8_code (5 : Nat) (Option.some Jvm.ClassFile.FieldType.long)) ∈ lw_all := lw_g (lw_at lw_m38 77 rfl) rfl
theorem q9353 : (Jvm.Cond.instanceMethod ({ cls := "WasteHouseModel$PurityOddsModel", name := "best", desc := "(IJJJJ)I" } : Jvm.MethodName)) ∈ lw_all := lw_g (lw_at lw_m38 81 rfl) rfl
theorem q9354 : (Jvm.Cond.selects "WasteHouseModel$PurityOddsModel" ({ cls := "WasteHouseModel$PurityOddsModel", name := "best", desc := "(IJJJJ)I" } : Jvm.MethodName) ({ cls := "WasteHouseModel$PurityOddsModel", name := "best", desc := "(IJJJJ)I" } : Jvm.MethodName)) ∈ lw_all := lw_g (lw_at lw_m38 82 rfl) rfl
theorem q9355 : (Jvm.Cond.code ({ cls := "WasteHouseModel$PurityOddsModel", name := "best", desc := "(IJJJJ)I" } : Jvm.MethodName) prog_62_method_12_code (18 : Nat) (Option.some Jvm.ClassFile.FieldType.int)) ∈ lw_all := lw_g (lw_at lw_m38 83 rfl) rfl
theorem q9356 : (Jvm.Cond.methodLink "WasteHouseModel$PurityOddsModel" (108 : Nat) ({ cls := "WasteHouseModel$PurityOddsModel", name := "reckonGreater", desc := "(II)V" } : Jvm.MethodName)) ∈ lw_all := lw_g (lw_at lw_m38 84 rfl) rfl
theorem q9357 : (Jvm.Cond.privateMethod ({ cls := "WasteHouseModel$PurityOddsModel", name := "reckonGreater", desc := "(II)V" } : Jvm.MethodName)) ∈ lw_tbl := lw_at lw_m38 85 rfl
theorem q9358 : (Jvm.Cond.instanceMethod ({ cls := "WasteHouseModel$PurityOddsModel", name := "reckonGreater", desc := "(II)V" } : Jvm.MethodName)) ∈ lw_all := lw_g (lw_at lw_m38 86 rfl) rfl
theorem q9359 : (Jvm.Cond.code ({ cls := "WasteHouseModel$PurityOddsModel", name := "reckonGreater", desc := "(II)V" } : Jvm.MethodName) prog_62_method_11_code (7 : Nat) (Option.none : Option Jvm.ClassFile.FieldType)) ∈ lw_all := lw_g (lw_at lw_m38 87 rfl) rfl
theorem q9360 : (Jvm.Cond.methodLink "WasteHouseModel$PurityOddsModel" (100 : Nat) ({ cls := "WasteHouseModel$PurityOddsModel", name := "reckon", desc := "(III)V" } : Jvm.MethodName)) ∈ lw_all := lw_g (lw_at lw_m38 88 rfl) rfl
theorem q9361 : (Jvm.Cond.privateMethod ({ cls := "WasteHouseModel$PurityOddsModel", name := "reckon", desc := "(III)V" } : Jvm.MethodName)) ∈ lw_tbl := lw_at lw_m38 89 rfl
theorem q9362 : (Jvm.Cond.instanceMethod ({ cls := "WasteHouseModel$PurityOddsModel", name := "reckon", desc := "(III)V" } : Jvm.MethodName)) ∈ lw_all := lw_g (lw_at lw_m38 90 rfl) rfl
theorem q9363 : (Jvm.Cond.code ({ cls := "WasteHouseModel$PurityOddsModel", name := "reckon", desc := "(III)V" } : Jvm.MethodName) prog_62_method_10_code (6 : Nat) (Option.none : Option Jvm.ClassFile.FieldType)) ∈ lw_all := lw_g (lw_at lw_m38 91 rfl) rfl
theorem q9364 : (Jvm.Cond.methodLink "WasteHouseModel$PurityOddsModel" (112 : Nat) ({ cls := "WasteHouseModel$PurityOddsModel", name := "plan", desc := "(II)I" } : Jvm.MethodName)) ∈ lw_all := lw_g (lw_at lw_m38 92 rfl) rfl
theorem q9367 : (Jvm.Cond.instanceMethod ({ cls := "WasteHouseModel$PurityOddsModel", name := "risk", desc := "(III)J" } : Jvm.MethodName)) ∈ lw_all := lw_g (lw_at lw_m38 95 rfl) rfl
theorem q9368 : (Jvm.Cond.selects "WasteHouseModel$PurityOddsModel" ({ cls := "WasteHouseModel$PurityOddsModel", name := "risk", desc := "(III)J" } : Jvm.MethodName) ({ cls := "WasteHouseModel$PurityOddsModel", name := "risk", desc := "(III)J" } : Jvm.MethodName)) ∈ lw_all := lw_g (lw_at lw_m38 96 rfl) rfl
theorem q9369 : (Jvm.Cond.code ({ cls := "WasteHouseModel$PurityOddsModel", name := "risk", desc := "(III)J" } : Jvm.MethodName) prog_62_method_13_code (4 : Nat) (Option.some Jvm.ClassFile.FieldType.long)) ∈ lw_all := lw_g (lw_at lw_m38 97 rfl) rfl
theorem q9374 : (Jvm.Cond.instanceMethod ({ cls := "WasteHouseModel$PurityOddsModel", name := "repeats", desc := "(I)I" } : Jvm.MethodName)) ∈ lw_all := lw_g (lw_at lw_m38 102 rfl) rfl
theorem q9375 : (Jvm.Cond.selects "WasteHouseModel$PurityOddsModel" ({ cls := "WasteHouseModel$PurityOddsModel", name := "repeats", desc := "(I)I" } : Jvm.MethodName) ({ cls := "WasteHouseModel$PurityOddsModel", name := "repeats", desc := "(I)I" } : Jvm.MethodName)) ∈ lw_all := lw_g (lw_at lw_m38 103 rfl) rfl
theorem q9376 : (Jvm.Cond.code ({ cls := "WasteHouseModel$PurityOddsModel", name := "repeats", desc := "(I)I" } : Jvm.MethodName) prog_62_method_20_code (8 : Nat) (Option.some Jvm.ClassFile.FieldType.int)) ∈ lw_all := lw_g (lw_at lw_m38 104 rfl) rfl
theorem q9378 : (Jvm.Cond.instanceMethod ({ cls := "WasteHouseModel$PurityOddsModel", name := "step", desc := "(JJJ)Z" } : Jvm.MethodName)) ∈ lw_all := lw_g (lw_at lw_m38 106 rfl) rfl
theorem q9379 : (Jvm.Cond.selects "WasteHouseModel$PurityOddsModel" ({ cls := "WasteHouseModel$PurityOddsModel", name := "step", desc := "(JJJ)Z" } : Jvm.MethodName) ({ cls := "WasteHouseModel$PurityOddsModel", name := "step", desc := "(JJJ)Z" } : Jvm.MethodName)) ∈ lw_all := lw_g (lw_at lw_m38 107 rfl) rfl
theorem q9380 : (Jvm.Cond.code ({ cls := "WasteHouseModel$PurityOddsModel", name := "step", desc := "(JJJ)Z" } : Jvm.MethodName) prog_62_method_21_code (7 : Nat) (Option.some Jvm.ClassFile.FieldType.boolean)) ∈ lw_all := lw_g (lw_at lw_m38 108 rfl) rfl
theorem q9381 : (Jvm.Cond.constantLong "WasteHouseModel$PurityOddsModel" (140 : Nat) (100000 : Int64)) ∈ lw_all := lw_g (lw_at lw_m38 109 rfl) rfl
theorem q9385 : (Jvm.Cond.instanceMethod ({ cls := "WasteHouseModel$PurityOddsModel", name := "third", desc := "(IJJ)I" } : Jvm.MethodName)) ∈ lw_all := lw_g (lw_at lw_m38 113 rfl) rfl
theorem q9386 : (Jvm.Cond.selects "WasteHouseModel$PurityOddsModel" ({ cls := "WasteHouseModel$PurityOddsModel", name := "third", desc := "(IJJ)I" } : Jvm.MethodName) ({ cls := "WasteHouseModel$PurityOddsModel", name := "third", desc := "(IJJ)I" } : Jvm.MethodName)) ∈ lw_all := lw_g (lw_at lw_m38 114 rfl) rfl
theorem q9387 : (Jvm.Cond.code ({ cls := "WasteHouseModel$PurityOddsModel", name := "third", desc := "(IJJ)I" } : Jvm.MethodName) prog_62_method_27_code (6 : Nat) (Option.some Jvm.ClassFile.FieldType.int)) ∈ lw_all := lw_g (lw_at lw_m38 115 rfl) rfl
theorem q9389 : (Jvm.Cond.instanceMethod ({ cls := "WasteHouseModel$PurityOddsModel", name := "place", desc := "(II)I" } : Jvm.MethodName)) ∈ lw_all := lw_g (lw_at lw_m38 117 rfl) rfl
theorem q9390 : (Jvm.Cond.selects "WasteHouseModel$PurityOddsModel" ({ cls := "WasteHouseModel$PurityOddsModel", name := "place", desc := "(II)I" } : Jvm.MethodName) ({ cls := "WasteHouseModel$PurityOddsModel", name := "place", desc := "(II)I" } : Jvm.MethodName)) ∈ lw_all := lw_g (lw_at lw_m38 118 rfl) rfl
theorem q9391 : (Jvm.Cond.code ({ cls := "WasteHouseModel$PurityOddsModel", name := "place", desc := "(II)I" } : Jvm.MethodName) prog_62_method_29_code (8 : Nat) (Option.some Jvm.ClassFile.FieldType.int)) ∈ lw_all := lw_g (lw_at lw_m38 119 rfl) rfl
theorem q9392 : (Jvm.Cond.constantLong "WasteHouseModel$PurityOddsModel" (156 : Nat) (1000003 : Int64)) ∈ lw_all := lw_g (lw_at lw_m38 120 rfl) rfl
theorem q9393 : (Jvm.Cond.constantLong "WasteHouseModel$PurityOddsModel" (158 : Nat) (6364136223846793005 : Int64)) ∈ lw_all := lw_g (lw_at lw_m38 121 rfl) rfl
theorem q9394 : (Jvm.Cond.constantLong "WasteHouseModel$PurityOddsModel" (160 : Nat) (1442695040888963407 : Int64)) ∈ lw_all := lw_g (lw_at lw_m38 122 rfl) rfl
theorem q9397 : (Jvm.Cond.instanceMethod ({ cls := "WasteHouseModel$PurityOddsModel", name := "dry", desc := "(IJJ)Z" } : Jvm.MethodName)) ∈ lw_all := lw_g (lw_at lw_m38 125 rfl) rfl
theorem q9398 : (Jvm.Cond.selects "WasteHouseModel$PurityOddsModel" ({ cls := "WasteHouseModel$PurityOddsModel", name := "dry", desc := "(IJJ)Z" } : Jvm.MethodName) ({ cls := "WasteHouseModel$PurityOddsModel", name := "dry", desc := "(IJJ)Z" } : Jvm.MethodName)) ∈ lw_all := lw_g (lw_at lw_m38 126 rfl) rfl
theorem q9399 : (Jvm.Cond.code ({ cls := "WasteHouseModel$PurityOddsModel", name := "dry", desc := "(IJJ)Z" } : Jvm.MethodName) prog_62_method_30_code (7 : Nat) (Option.some Jvm.ClassFile.FieldType.boolean)) ∈ lw_all := lw_g (lw_at lw_m38 127 rfl) rfl
theorem q9402 : (Jvm.Cond.instanceMethod ({ cls := "WasteHouseModel$PurityOddsModel", name := "moisture", desc := "(II)J" } : Jvm.MethodName)) ∈ lw_all := lw_g (lw_at lw_m38 130 rfl) rfl
theorem q9403 : (Jvm.Cond.selects "WasteHouseModel$PurityOddsModel" ({ cls := "WasteHouseModel$PurityOddsModel", name := "moisture", desc := "(II)J" } : Jvm.MethodName) ({ cls := "WasteHouseModel$PurityOddsModel", name := "moisture", desc := "(II)J" } : Jvm.MethodName)) ∈ lw_all := lw_g (lw_at lw_m38 131 rfl) rfl
theorem q9404 : (Jvm.Cond.code ({ cls := "WasteHouseModel$PurityOddsModel", name := "moisture", desc := "(II)J" } : Jvm.MethodName) prog_62_method_31_code (8 : Nat) (Option.some Jvm.ClassFile.FieldType.long)) ∈ lw_all := lw_g (lw_at lw_m38 132 rfl) rfl
theorem q9407 : (Jvm.Cond.instanceMethod ({ cls := "WasteHouseModel$PurityOddsModel", name := "trend", desc := "(I)I" } : Jvm.MethodName)) ∈ lw_all := lw_g (lw_at lw_m38 135 rfl) rfl
theorem q9408 : (Jvm.Cond.selects "WasteHouseModel$PurityOddsModel" ({ cls := "WasteHouseModel$PurityOddsModel", name := "trend", desc := "(I)I" } : Jvm.MethodName) ({ cls := "WasteHouseModel$PurityOddsModel", name := "trend", desc := "(I)I" } : Jvm.MethodName)) ∈ lw_all := lw_g (lw_at lw_m38 136 rfl) rfl
theorem q9409 : (Jvm.Cond.code ({ cls := "WasteHouseModel$PurityOddsModel", name := "trend", desc := "(I)I" } : Jvm.MethodName) prog_62_method_28_code (6 : Nat) (Option.some Jvm.ClassFile.FieldType.int)) ∈ lw_all := lw_g (lw_at lw_m38 137 rfl) rfl
theorem q9679 : (Jvm.Cond.castable "WasteHouseModel$PurityOddsModel" "java/lang/Object") ∈ lw_tbl := lw_at lw_m39 167 rfl
theorem in_X56 : ∀ w ∈ wsX560, w ∈ lw_all := lw_in wsX560 [7357, 7359, 7361, 7363, 7365, 7367, 7369, 7371, 7373, 7375, 7377, 7379, 7381, 7383, 7385, 7387, 7389, 7391, 7393, 7395, 7397, 7399, 7401, 7403] (by decide +kernel) (by decide +kernel)
