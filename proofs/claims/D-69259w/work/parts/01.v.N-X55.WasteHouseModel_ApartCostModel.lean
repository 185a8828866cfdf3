/-! WasteHouseModel$ApartCostModel -/
set_option maxRecDepth 100000
def RX55 : String := "WasteHouseModel$ApartCostModel"
def TX55 : u_T := fun k => match k with
  | 0 => ("WasteHouseModel$ApartCostModel", "count", "I", false)
  | 1 => ("WasteHouseModel$ApartCostModel", "freed", "[I", true)
  | 2 => ("WasteHouseModel$ApartCostModel", "tools", "[I", true)
  | 3 => ("WasteHouseModel$ApartCostModel", "sides", "[I", true)
  | 4 => ("WasteHouseModel$ApartCostModel", "costs", "[J", true)
  | 5 => ("WasteHouseModel$ApartCostModel", "breaking", "[Z", true)
  | 6 => ("WasteHouseModel$ApartCostModel", "needs", "[Z", true)
  | 7 => ("WasteHouseModel$ApartCostModel", "changes", "[J", true)
  | 8 => ("WasteHouseModel$ApartCostModel", "turns", "[J", true)
  | 9 => ("WasteHouseModel$ApartCostModel", "worths", "[J", true)
  | 10 => ("WasteHouseModel$ApartCostModel", "above", "[I", true)
  | 11 => ("WasteHouseModel$ApartCostModel", "below", "[I", true)
  | 12 => ("WasteHouseModel$ApartCostModel", "rests", "[I", true)
  | 13 => ("WasteHouseModel$ApartCostModel", "restWorths", "[J", true)
  | 14 => ("WasteHouseModel$ApartCostModel", "restCount", "I", false)
  | 15 => ("WasteHouseModel$ApartCostModel", "row", "[I", true)
  | 16 => ("WasteHouseModel$ApartCostModel", "length", "I", false)
  | 17 => ("WasteHouseModel$ApartCostModel", "found", "J", false)
  | 18 => ("WasteHouseModel$ApartCostModel", "brought", "[J", true)
  | 19 => ("WasteHouseModel$ApartCostModel", "isFresh", "Z", false)
  | 20 => ("WasteHouseModel$ApartCostModel", "openParts", "I", false)
  | 21 => ("WasteHouseModel$ApartCostModel", "actsThen", "I", false)
  | 22 => ("WasteHouseModel$ApartCostModel", "places", "[I", true)
  | 23 => ("WasteHouseModel$ApartCostModel", "isShared", "Z", false)
  | 24 => ("WasteHouseModel$ApartCostModel", "tested", "I", false)
  | 25 => ("WasteHouseModel$ApartCostModel", "testedAs", "I", false)
  | 26 => ("WasteHouseModel$ApartCostModel", "needed", "[I", true)
  | 27 => ("WasteHouseModel$ApartCostModel", "least", "[J", true)
  | 28 => ("WasteHouseModel$ApartCostModel", "values", "[J", true)
  | 29 => ("WasteHouseModel$ApartCostModel", "tried", "[I", true)
  | 30 => ("WasteHouseModel$ApartCostModel", "behind", "[Z", true)
  | _ => ("WasteHouseModel$ApartCostModel", "rowActs", "[I", true)
def tyX55 : Nat → FieldType := fun k => match k with
  | 0 => .int
  | 1 => .array .int
  | 2 => .array .int
  | 3 => .array .int
  | 4 => .array .long
  | 5 => .array .boolean
  | 6 => .array .boolean
  | 7 => .array .long
  | 8 => .array .long
  | 9 => .array .long
  | 10 => .array .int
  | 11 => .array .int
  | 12 => .array .int
  | 13 => .array .long
  | 14 => .int
  | 15 => .array .int
  | 16 => .int
  | 17 => .long
  | 18 => .array .long
  | 19 => .boolean
  | 20 => .int
  | 21 => .int
  | 22 => .array .int
  | 23 => .boolean
  | 24 => .int
  | 25 => .int
  | 26 => .array .int
  | 27 => .array .long
  | 28 => .array .long
  | 29 => .array .int
  | 30 => .array .boolean
  | _ => .array .int
abbrev wsX550 : List Cond := u_ws RX55 TX55 32
set_option maxRecDepth 100000 in
theorem nmX55 : ∀ a, a < 32 → ∀ b, b < 32 → a ≠ b → (TX55 a).2.1 ≠ (TX55 b).2.1 := by decide +kernel
set_option maxRecDepth 100000 in
theorem tyX55_ok : ∀ k, k < 32 → parseFieldDescriptor (TX55 k).2.2.1 = some (tyX55 k) := by decide +kernel
abbrev cX55_init : ByteArray := prog_57_method_1_code
def yX55_init : MethodName := ⟨RX55, "<init>", "()V"⟩
def dkwX55_init_9 : List UInt8 := [79, 132, 1, 1, 167, 255, 233, 177]
abbrev dktX55_init_9 : List UInt8 := dkwX55_init_9 ++ []
def dkwX55_init_8 : List UInt8 := [181, 0, 82, 3, 60, 27, 16, 12, 162, 0, 23, 42, 180, 0, 39, 27, 4, 79, 42, 180, 0, 42, 27, 4]
abbrev dktX55_init_8 : List UInt8 := dkwX55_init_8 ++ dktX55_init_9
def dkwX55_init_7 : List UInt8 := [181, 0, 73, 42, 16, 10, 188, 10, 181, 0, 76, 42, 16, 100, 188, 4, 181, 0, 79, 42, 16, 10, 188, 10]
abbrev dktX55_init_7 : List UInt8 := dkwX55_init_7 ++ dktX55_init_8
def dkwX55_init_6 : List UInt8 := [42, 16, 10, 188, 10, 181, 0, 67, 42, 17, 40, 0, 188, 11, 181, 0, 70, 42, 17, 4, 0, 188, 11]
abbrev dktX55_init_6 : List UInt8 := dkwX55_init_6 ++ dktX55_init_7
def dkwX55_init_5 : List UInt8 := [181, 0, 54, 42, 16, 12, 188, 11, 181, 0, 58, 42, 16, 10, 188, 10, 181, 0, 61, 42, 2, 181, 0, 64]
abbrev dktX55_init_5 : List UInt8 := dkwX55_init_5 ++ dktX55_init_6
def dkwX55_init_4 : List UInt8 := [188, 10, 181, 0, 45, 42, 16, 16, 188, 11, 181, 0, 48, 42, 16, 10, 188, 10, 181, 0, 51, 42, 2]
abbrev dktX55_init_4 : List UInt8 := dkwX55_init_4 ++ dktX55_init_5
def dkwX55_init_3 : List UInt8 := [188, 11, 181, 0, 36, 42, 16, 12, 188, 10, 181, 0, 39, 42, 16, 12, 188, 10, 181, 0, 42, 42, 16, 16]
abbrev dktX55_init_3 : List UInt8 := dkwX55_init_3 ++ dktX55_init_4
def dkwX55_init_2 : List UInt8 := [188, 4, 181, 0, 27, 42, 16, 36, 188, 11, 181, 0, 30, 42, 16, 36, 188, 11, 181, 0, 33, 42, 16, 12]
abbrev dktX55_init_2 : List UInt8 := dkwX55_init_2 ++ dktX55_init_3
def dkwX55_init_1 : List UInt8 := [188, 10, 181, 0, 16, 42, 16, 10, 188, 11, 181, 0, 19, 42, 16, 10, 188, 4, 181, 0, 23, 42, 16, 100]
abbrev dktX55_init_1 : List UInt8 := dkwX55_init_1 ++ dktX55_init_2
def dkwX55_init_0 : List UInt8 := [42, 183, 0, 1, 42, 16, 10, 188, 10, 181, 0, 7, 42, 16, 10, 188, 10, 181, 0, 13, 42, 16, 10]
abbrev dktX55_init_0 : List UInt8 := dkwX55_init_0 ++ dktX55_init_1
theorem dksX55_init_0 : cX55_init.data.toList.drop 0 = dktX55_init_0 := by decide +kernel
theorem dksX55_init_1 : cX55_init.data.toList.drop 23 = dktX55_init_1 := dk_seg dksX55_init_0 23 rfl rfl
theorem dksX55_init_2 : cX55_init.data.toList.drop 47 = dktX55_init_2 := dk_seg dksX55_init_1 24 rfl rfl
theorem dksX55_init_3 : cX55_init.data.toList.drop 71 = dktX55_init_3 := dk_seg dksX55_init_2 24 rfl rfl
theorem dksX55_init_4 : cX55_init.data.toList.drop 95 = dktX55_init_4 := dk_seg dksX55_init_3 24 rfl rfl
theorem dksX55_init_5 : cX55_init.data.toList.drop 118 = dktX55_init_5 := dk_seg dksX55_init_4 23 rfl rfl
theorem dksX55_init_6 : cX55_init.data.toList.drop 142 = dktX55_init_6 := dk_seg dksX55_init_5 24 rfl rfl
theorem dksX55_init_7 : cX55_init.data.toList.drop 165 = dktX55_init_7 := dk_seg dksX55_init_6 23 rfl rfl
theorem dksX55_init_8 : cX55_init.data.toList.drop 189 = dktX55_init_8 := dk_seg dksX55_init_7 24 rfl rfl
theorem dksX55_init_9 : cX55_init.data.toList.drop 213 = dktX55_init_9 := dk_seg dksX55_init_8 24 rfl rfl
theorem dX55_init_0 : decode cX55_init 0 = .ok (.aload_n 0, 1) := dk_42 (dk_at dksX55_init_0 0 rfl rfl)
theorem dX55_init_1 : decode cX55_init 1 = .ok (.invokespecial 1, 3) := dk_183 0 1 (dk_at dksX55_init_0 1 rfl rfl)
theorem dX55_init_4 : decode cX55_init 4 = .ok (.aload_n 0, 1) := dk_42 (dk_at dksX55_init_0 4 rfl rfl)
theorem dX55_init_5 : decode cX55_init 5 = .ok (.bipush 10, 2) := dk_16 10 (dk_at dksX55_init_0 5 rfl rfl)
theorem dX55_init_7 : decode cX55_init 7 = .ok (.newarray .int, 2) := dk_188_10 (dk_at dksX55_init_0 7 rfl rfl)
theorem dX55_init_9 : decode cX55_init 9 = .ok (.putfield 7, 3) := dk_181 0 7 (dk_at dksX55_init_0 9 rfl rfl)
theorem dX55_init_12 : decode cX55_init 12 = .ok (.aload_n 0, 1) := dk_42 (dk_at dksX55_init_0 12 rfl rfl)
theorem dX55_init_13 : decode cX55_init 13 = .ok (.bipush 10, 2) := dk_16 10 (dk_at dksX55_init_0 13 rfl rfl)
theorem dX55_init_15 : decode cX55_init 15 = .ok (.newarray .int, 2) := dk_188_10 (dk_at dksX55_init_0 15 rfl rfl)
theorem dX55_init_17 : decode cX55_init 17 = .ok (.putfield 13, 3) := dk_181 0 13 (dk_at dksX55_init_0 17 rfl rfl)
theorem dX55_init_20 : decode cX55_init 20 = .ok (.aload_n 0, 1) := dk_42 (dk_at dksX55_init_0 20 rfl rfl)
theorem dX55_init_21 : decode cX55_init 21 = .ok (.bipush 10, 2) := dk_16 10 (dk_at dksX55_init_0 21 rfl rfl)
theorem dX55_init_23 : decode cX55_init 23 = .ok (.newarray .int, 2) := dk_188_10 (dk_at dksX55_init_1 0 rfl rfl)
theorem dX55_init_25 : decode cX55_init 25 = .ok (.putfield 16, 3) := dk_181 0 16 (dk_at dksX55_init_1 2 rfl rfl)
theorem dX55_init_28 : decode cX55_init 28 = .ok (.aload_n 0, 1) := dk_42 (dk_at dksX55_init_1 5 rfl rfl)
theorem dX55_init_29 : decode cX55_init 29 = .ok (.bipush 10, 2) := dk_16 10 (dk_at dksX55_init_1 6 rfl rfl)
theorem dX55_init_31 : decode cX55_init 31 = .ok (.newarray .long, 2) := dk_188_11 (dk_at dksX55_init_1 8 rfl rfl)
theorem dX55_init_33 : decode cX55_init 33 = .ok (.putfield 19, 3) := dk_181 0 19 (dk_at dksX55_init_1 10 rfl rfl)
theorem dX55_init_36 : decode cX55_init 36 = .ok (.aload_n 0, 1) := dk_42 (dk_at dksX55_init_1 13 rfl rfl)
theorem dX55_init_37 : decode cX55_init 37 = .ok (.bipush 10, 2) := dk_16 10 (dk_at dksX55_init_1 14 rfl rfl)
theorem dX55_init_39 : decode cX55_init 39 = .ok (.newarray .boolean, 2) := dk_188_4 (dk_at dksX55_init_1 16 rfl rfl)
theorem dX55_init_41 : decode cX55_init 41 = .ok (.putfield 23, 3) := dk_181 0 23 (dk_at dksX55_init_1 18 rfl rfl)
theorem dX55_init_44 : decode cX55_init 44 = .ok (.aload_n 0, 1) := dk_42 (dk_at dksX55_init_1 21 rfl rfl)
theorem dX55_init_45 : decode cX55_init 45 = .ok (.bipush 100, 2) := dk_16 100 (dk_at dksX55_init_1 22 rfl rfl)
theorem dX55_init_47 : decode cX55_init 47 = .ok (.newarray .boolean, 2) := dk_188_4 (dk_at dksX55_init_2 0 rfl rfl)
theorem dX55_init_49 : decode cX55_init 49 = .ok (.putfield 27, 3) := dk_181 0 27 (dk_at dksX55_init_2 2 rfl rfl)
theorem dX55_init_52 : decode cX55_init 52 = .ok (.aload_n 0, 1) := dk_42 (dk_at dksX55_init_2 5 rfl rfl)
theorem dX55_init_53 : decode cX55_init 53 = .ok (.bipush 36, 2) := dk_16 36 (dk_at dksX55_init_2 6 rfl rfl)
theorem dX55_init_55 : decode cX55_init 55 = .ok (.newarray .long, 2) := dk_188_11 (dk_at dksX55_init_2 8 rfl rfl)
theorem dX55_init_57 : decode cX55_init 57 = .ok (.putfield 30, 3) := dk_181 0 30 (dk_at dksX55_init_2 10 rfl rfl)
theorem dX55_init_60 : decode cX55_init 60 = .ok (.aload_n 0, 1) := dk_42 (dk_at dksX55_init_2 13 rfl rfl)
theorem dX55_init_61 : decode cX55_init 61 = .ok (.bipush 36, 2) := dk_16 36 (dk_at dksX55_init_2 14 rfl rfl)
theorem dX55_init_63 : decode cX55_init 63 = .ok (.newarray .long, 2) := dk_188_11 (dk_at dksX55_init_2 16 rfl rfl)
theorem dX55_init_65 : decode cX55_init 65 = .ok (.putfield 33, 3) := dk_181 0 33 (dk_at dksX55_init_2 18 rfl rfl)
theorem dX55_init_68 : decode cX55_init 68 = .ok (.aload_n 0, 1) := dk_42 (dk_at dksX55_init_2 21 rfl rfl)
theorem dX55_init_69 : decode cX55_init 69 = .ok (.bipush 12, 2) := dk_16 12 (dk_at dksX55_init_2 22 rfl rfl)
theorem dX55_init_71 : decode cX55_init 71 = .ok (.newarray .long, 2) := dk_188_11 (dk_at dksX55_init_3 0 rfl rfl)
theorem dX55_init_73 : decode cX55_init 73 = .ok (.putfield 36, 3) := dk_181 0 36 (dk_at dksX55_init_3 2 rfl rfl)
theorem dX55_init_76 : decode cX55_init 76 = .ok (.aload_n 0, 1) := dk_42 (dk_at dksX55_init_3 5 rfl rfl)
theorem dX55_init_77 : decode cX55_init 77 = .ok (.bipush 12, 2) := dk_16 12 (dk_at dksX55_init_3 6 rfl rfl)
theorem dX55_init_79 : decode cX55_init 79 = .ok (.newarray .int, 2) := dk_188_10 (dk_at dksX55_init_3 8 rfl rfl)
theorem dX55_init_81 : decode cX55_init 81 = .ok (.putfield 39, 3) := dk_181 0 39 (dk_at dksX55_init_3 10 rfl rfl)
theorem dX55_init_84 : decode cX55_init 84 = .ok (.aload_n 0, 1) := dk_42 (dk_at dksX55_init_3 13 rfl rfl)
theorem dX55_init_85 : decode cX55_init 85 = .ok (.bipush 12, 2) := dk_16 12 (dk_at dksX55_init_3 14 rfl rfl)
theorem dX55_init_87 : decode cX55_init 87 = .ok (.newarray .int, 2) := dk_188_10 (dk_at dksX55_init_3 16 rfl rfl)
theorem dX55_init_89 : decode cX55_init 89 = .ok (.putfield 42, 3) := dk_181 0 42 (dk_at dksX55_init_3 18 rfl rfl)
theorem dX55_init_92 : decode cX55_init 92 = .ok (.aload_n 0, 1) := dk_42 (dk_at dksX55_init_3 21 rfl rfl)
theorem dX55_init_93 : decode cX55_init 93 = .ok (.bipush 16, 2) := dk_16 16 (dk_at dksX55_init_3 22 rfl rfl)
theorem dX55_init_95 : decode cX55_init 95 = .ok (.newarray .int, 2) := dk_188_10 (dk_at dksX55_init_4 0 rfl rfl)
theorem dX55_init_97 : decode cX55_init 97 = .ok (.putfield 45, 3) := dk_181 0 45 (dk_at dksX55_init_4 2 rfl rfl)
theorem dX55_init_100 : decode cX55_init 100 = .ok (.aload_n 0, 1) := dk_42 (dk_at dksX55_init_4 5 rfl rfl)
theorem dX55_init_101 : decode cX55_init 101 = .ok (.bipush 16, 2) := dk_16 16 (dk_at dksX55_init_4 6 rfl rfl)
theorem dX55_init_103 : decode cX55_init 103 = .ok (.newarray .long, 2) := dk_188_11 (dk_at dksX55_init_4 8 rfl rfl)
theorem dX55_init_105 : decode cX55_init 105 = .ok (.putfield 48, 3) := dk_181 0 48 (dk_at dksX55_init_4 10 rfl rfl)
theorem dX55_init_108 : decode cX55_init 108 = .ok (.aload_n 0, 1) := dk_42 (dk_at dksX55_init_4 13 rfl rfl)
theorem dX55_init_109 : decode cX55_init 109 = .ok (.bipush 10, 2) := dk_16 10 (dk_at dksX55_init_4 14 rfl rfl)
theorem dX55_init_111 : decode cX55_init 111 = .ok (.newarray .int, 2) := dk_188_10 (dk_at dksX55_init_4 16 rfl rfl)
theorem dX55_init_113 : decode cX55_init 113 = .ok (.putfield 51, 3) := dk_181 0 51 (dk_at dksX55_init_4 18 rfl rfl)
theorem dX55_init_116 : decode cX55_init 116 = .ok (.aload_n 0, 1) := dk_42 (dk_at dksX55_init_4 21 rfl rfl)
theorem dX55_init_117 : decode cX55_init 117 = .ok (.iconst (-1), 1) := dk_2 (dk_at dksX55_init_4 22 rfl rfl)
theorem dX55_init_118 : decode cX55_init 118 = .ok (.putfield 54, 3) := dk_181 0 54 (dk_at dksX55_init_5 0 rfl rfl)
theorem dX55_init_121 : decode cX55_init 121 = .ok (.aload_n 0, 1) := dk_42 (dk_at dksX55_init_5 3 rfl rfl)
theorem dX55_init_122 : decode cX55_init 122 = .ok (.bipush 12, 2) := dk_16 12 (dk_at dksX55_init_5 4 rfl rfl)
theorem dX55_init_124 : decode cX55_init 124 = .ok (.newarray .long, 2) := dk_188_11 (dk_at dksX55_init_5 6 rfl rfl)
theorem dX55_init_126 : decode cX55_init 126 = .ok (.putfield 58, 3) := dk_181 0 58 (dk_at dksX55_init_5 8 rfl rfl)
theorem dX55_init_129 : decode cX55_init 129 = .ok (.aload_n 0, 1) := dk_42 (dk_at dksX55_init_5 11 rfl rfl)
theorem dX55_init_130 : decode cX55_init 130 = .ok (.bipush 10, 2) := dk_16 10 (dk_at dksX55_init_5 12 rfl rfl)
theorem dX55_init_132 : decode cX55_init 132 = .ok (.newarray .int, 2) := dk_188_10 (dk_at dksX55_init_5 14 rfl rfl)
theorem dX55_init_134 : decode cX55_init 134 = .ok (.putfield 61, 3) := dk_181 0 61 (dk_at dksX55_init_5 16 rfl rfl)
theorem dX55_init_137 : decode cX55_init 137 = .ok (.aload_n 0, 1) := dk_42 (dk_at dksX55_init_5 19 rfl rfl)
theorem dX55_init_138 : decode cX55_init 138 = .ok (.iconst (-1), 1) := dk_2 (dk_at dksX55_init_5 20 rfl rfl)
theorem dX55_init_139 : decode cX55_init 139 = .ok (.putfield 64, 3) := dk_181 0 64 (dk_at dksX55_init_5 21 rfl rfl)
theorem dX55_init_142 : decode cX55_init 142 = .ok (.aload_n 0, 1) := dk_42 (dk_at dksX55_init_6 0 rfl rfl)
theorem dX55_init_143 : decode cX55_init 143 = .ok (.bipush 10, 2) := dk_16 10 (dk_at dksX55_init_6 1 rfl rfl)
theorem dX55_init_145 : decode cX55_init 145 = .ok (.newarray .int, 2) := dk_188_10 (dk_at dksX55_init_6 3 rfl rfl)
theorem dX55_init_147 : decode cX55_init 147 = .ok (.putfield 67, 3) := dk_181 0 67 (dk_at dksX55_init_6 5 rfl rfl)
theorem dX55_init_150 : decode cX55_init 150 = .ok (.aload_n 0, 1) := dk_42 (dk_at dksX55_init_6 8 rfl rfl)
theorem dX55_init_151 : decode cX55_init 151 = .ok (.sipush 10240, 3) := dk_17 40 0 (dk_at dksX55_init_6 9 rfl rfl)
theorem dX55_init_154 : decode cX55_init 154 = .ok (.newarray .long, 2) := dk_188_11 (dk_at dksX55_init_6 12 rfl rfl)
theorem dX55_init_156 : decode cX55_init 156 = .ok (.putfield 70, 3) := dk_181 0 70 (dk_at dksX55_init_6 14 rfl rfl)
theorem dX55_init_159 : decode cX55_init 159 = .ok (.aload_n 0, 1) := dk_42 (dk_at dksX55_init_6 17 rfl rfl)
theorem dX55_init_160 : decode cX55_init 160 = .ok (.sipush 1024, 3) := dk_17 4 0 (dk_at dksX55_init_6 18 rfl rfl)
theorem dX55_init_163 : decode cX55_init 163 = .ok (.newarray .long, 2) := dk_188_11 (dk_at dksX55_init_6 21 rfl rfl)
theorem dX55_init_165 : decode cX55_init 165 = .ok (.putfield 73, 3) := dk_181 0 73 (dk_at dksX55_init_7 0 rfl rfl)
theorem dX55_init_168 : decode cX55_init 168 = .ok (.aload_n 0, 1) := dk_42 (dk_at dksX55_init_7 3 rfl rfl)
theorem dX55_init_169 : decode cX55_init 169 = .ok (.bipush 10, 2) := dk_16 10 (dk_at dksX55_init_7 4 rfl rfl)
theorem dX55_init_171 : decode cX55_init 171 = .ok (.newarray .int, 2) := dk_188_10 (dk_at dksX55_init_7 6 rfl rfl)
theorem dX55_init_173 : decode cX55_init 173 = .ok (.putfield 76, 3) := dk_181 0 76 (dk_at dksX55_init_7 8 rfl rfl)
theorem dX55_init_176 : decode cX55_init 176 = .ok (.aload_n 0, 1) := dk_42 (dk_at dksX55_init_7 11 rfl rfl)
theorem dX55_init_177 : decode cX55_init 177 = .ok (.bipush 100, 2) := dk_16 100 (dk_at dksX55_init_7 12 rfl rfl)
theorem dX55_init_179 : decode cX55_init 179 = .ok (.newarray .boolean, 2) := dk_188_4 (dk_at dksX55_init_7 14 rfl rfl)
theorem dX55_init_181 : decode cX55_init 181 = .ok (.putfield 79, 3) := dk_181 0 79 (dk_at dksX55_init_7 16 rfl rfl)
theorem dX55_init_184 : decode cX55_init 184 = .ok (.aload_n 0, 1) := dk_42 (dk_at dksX55_init_7 19 rfl rfl)
theorem dX55_init_185 : decode cX55_init 185 = .ok (.bipush 10, 2) := dk_16 10 (dk_at dksX55_init_7 20 rfl rfl)
theorem dX55_init_187 : decode cX55_init 187 = .ok (.newarray .int, 2) := dk_188_10 (dk_at dksX55_init_7 22 rfl rfl)
theorem dX55_init_189 : decode cX55_init 189 = .ok (.putfield 82, 3) := dk_181 0 82 (dk_at dksX55_init_8 0 rfl rfl)
theorem dX55_init_192 : decode cX55_init 192 = .ok (.iconst 0, 1) := dk_3 (dk_at dksX55_init_8 3 rfl rfl)
theorem dX55_init_193 : decode cX55_init 193 = .ok (.istore_n 1, 1) := dk_60 (dk_at dksX55_init_8 4 rfl rfl)
theorem dX55_init_194 : decode cX55_init 194 = .ok (.iload_n 1, 1) := dk_27 (dk_at dksX55_init_8 5 rfl rfl)
theorem dX55_init_195 : decode cX55_init 195 = .ok (.bipush 12, 2) := dk_16 12 (dk_at dksX55_init_8 6 rfl rfl)
theorem dX55_init_197 : decode cX55_init 197 = .ok (.if_icmp .ge 23, 3) := dk_162 0 23 (dk_at dksX55_init_8 8 rfl rfl)
theorem dX55_init_200 : decode cX55_init 200 = .ok (.aload_n 0, 1) := dk_42 (dk_at dksX55_init_8 11 rfl rfl)
theorem dX55_init_201 : decode cX55_init 201 = .ok (.getfield 39, 3) := dk_180 0 39 (dk_at dksX55_init_8 12 rfl rfl)
theorem dX55_init_204 : decode cX55_init 204 = .ok (.iload_n 1, 1) := dk_27 (dk_at dksX55_init_8 15 rfl rfl)
theorem dX55_init_205 : decode cX55_init 205 = .ok (.iconst 1, 1) := dk_4 (dk_at dksX55_init_8 16 rfl rfl)
theorem dX55_init_206 : decode cX55_init 206 = .ok (.iastore, 1) := dk_79 (dk_at dksX55_init_8 17 rfl rfl)
theorem dX55_init_207 : decode cX55_init 207 = .ok (.aload_n 0, 1) := dk_42 (dk_at dksX55_init_8 18 rfl rfl)
theorem dX55_init_208 : decode cX55_init 208 = .ok (.getfield 42, 3) := dk_180 0 42 (dk_at dksX55_init_8 19 rfl rfl)
theorem dX55_init_211 : decode cX55_init 211 = .ok (.iload_n 1, 1) := dk_27 (dk_at dksX55_init_8 22 rfl rfl)
theorem dX55_init_212 : decode cX55_init 212 = .ok (.iconst 1, 1) := dk_4 (dk_at dksX55_init_8 23 rfl rfl)
theorem dX55_init_213 : decode cX55_init 213 = .ok (.iastore, 1) := dk_79 (dk_at dksX55_init_9 0 rfl rfl)
theorem dX55_init_214 : decode cX55_init 214 = .ok (.iinc 1 1, 3) := dk_132 1 1 (dk_at dksX55_init_9 1 rfl rfl)
theorem dX55_init_217 : decode cX55_init 217 = .ok (.goto (-23), 3) := dk_167 255 233 (dk_at dksX55_init_9 4 rfl rfl)
theorem dX55_init_220 : decode cX55_init 220 = .ok (.return_, 1) := dk_177 (dk_at dksX55_init_9 7 rfl rfl)
abbrev cX55_act : ByteArray := prog_57_method_8_code
def yX55_act : MethodName := ⟨RX55, "act", "(IIIJ)I"⟩
def dkwX55_act_4 : List UInt8 := [3, 181, 0, 100, 42, 180, 0, 89, 4, 100, 172]
abbrev dktX55_act_4 : List UInt8 := dkwX55_act_4 ++ []
def dkwX55_act_3 : List UInt8 := [29, 79, 42, 180, 0, 19, 42, 180, 0, 89, 22, 4, 80, 42, 89, 180, 0, 89, 4, 96, 181, 0, 89, 42]
abbrev dktX55_act_3 : List UInt8 := dkwX55_act_3 ++ dktX55_act_4
def dkwX55_act_2 : List UInt8 := [42, 180, 0, 89, 27, 79, 42, 180, 0, 13, 42, 180, 0, 89, 28, 79, 42, 180, 0, 16, 42, 180, 0, 89]
abbrev dktX55_act_2 : List UInt8 := dkwX55_act_2 ++ dktX55_act_3
def dkwX55_act_1 : List UInt8 := [153, 0, 18, 29, 184, 0, 92, 153, 0, 11, 22, 4, 184, 0, 96, 154, 0, 5, 2, 172, 42, 180, 0, 7]
abbrev dktX55_act_1 : List UInt8 := dkwX55_act_1 ++ dktX55_act_2
def dkwX55_act_0 : List UInt8 := [42, 180, 0, 89, 16, 10, 159, 0, 36, 27, 2, 161, 0, 31, 27, 16, 12, 162, 0, 25, 28, 184, 0, 92]
abbrev dktX55_act_0 : List UInt8 := dkwX55_act_0 ++ dktX55_act_1
theorem dksX55_act_0 : cX55_act.data.toList.drop 0 = dktX55_act_0 := by decide +kernel
theorem dksX55_act_1 : cX55_act.data.toList.drop 24 = dktX55_act_1 := dk_seg dksX55_act_0 24 rfl rfl
theorem dksX55_act_2 : cX55_act.data.toList.drop 48 = dktX55_act_2 := dk_seg dksX55_act_1 24 rfl rfl
theorem dksX55_act_3 : cX55_act.data.toList.drop 72 = dktX55_act_3 := dk_seg dksX55_act_2 24 rfl rfl
theorem dksX55_act_4 : cX55_act.data.toList.drop 96 = dktX55_act_4 := dk_seg dksX55_act_3 24 rfl rfl
theorem dX55_act_0 : decode cX55_act 0 = .ok (.aload_n 0, 1) := dk_42 (dk_at dksX55_act_0 0 rfl rfl)
theorem dX55_act_1 : decode cX55_act 1 = .ok (.getfield 89, 3) := dk_180 0 89 (dk_at dksX55_act_0 1 rfl rfl)
theorem dX55_act_4 : decode cX55_act 4 = .ok (.bipush 10, 2) := dk_16 10 (dk_at dksX55_act_0 4 rfl rfl)
theorem dX55_act_6 : decode cX55_act 6 = .ok (.if_icmp .eq 36, 3) := dk_159 0 36 (dk_at dksX55_act_0 6 rfl rfl)
theorem dX55_act_9 : decode cX55_act 9 = .ok (.iload_n 1, 1) := dk_27 (dk_at dksX55_act_0 9 rfl rfl)
theorem dX55_act_10 : decode cX55_act 10 = .ok (.iconst (-1), 1) := dk_2 (dk_at dksX55_act_0 10 rfl rfl)
theorem dX55_act_11 : decode cX55_act 11 = .ok (.if_icmp .lt 31, 3) := dk_161 0 31 (dk_at dksX55_act_0 11 rfl rfl)
theorem dX55_act_14 : decode cX55_act 14 = .ok (.iload_n 1, 1) := dk_27 (dk_at dksX55_act_0 14 rfl rfl)
theorem dX55_act_15 : decode cX55_act 15 = .ok (.bipush 12, 2) := dk_16 12 (dk_at dksX55_act_0 15 rfl rfl)
theorem dX55_act_17 : decode cX55_act 17 = .ok (.if_icmp .ge 25, 3) := dk_162 0 25 (dk_at dksX55_act_0 17 rfl rfl)
theorem dX55_act_20 : decode cX55_act 20 = .ok (.iload_n 2, 1) := dk_28 (dk_at dksX55_act_0 20 rfl rfl)
theorem dX55_act_21 : decode cX55_act 21 = .ok (.invokestatic 92, 3) := dk_184 0 92 (dk_at dksX55_act_0 21 rfl rfl)
theorem dX55_act_24 : decode cX55_act 24 = .ok (.ifCond .eq 18, 3) := dk_153 0 18 (dk_at dksX55_act_1 0 rfl rfl)
theorem dX55_act_27 : decode cX55_act 27 = .ok (.iload_n 3, 1) := dk_29 (dk_at dksX55_act_1 3 rfl rfl)
theorem dX55_act_28 : decode cX55_act 28 = .ok (.invokestatic 92, 3) := dk_184 0 92 (dk_at dksX55_act_1 4 rfl rfl)
theorem dX55_act_31 : decode cX55_act 31 = .ok (.ifCond .eq 11, 3) := dk_153 0 11 (dk_at dksX55_act_1 7 rfl rfl)
theorem dX55_act_34 : decode cX55_act 34 = .ok (.lload 4, 2) := dk_22 4 (dk_at dksX55_act_1 10 rfl rfl)
theorem dX55_act_36 : decode cX55_act 36 = .ok (.invokestatic 96, 3) := dk_184 0 96 (dk_at dksX55_act_1 12 rfl rfl)
theorem dX55_act_39 : decode cX55_act 39 = .ok (.ifCond .ne 5, 3) := dk_154 0 5 (dk_at dksX55_act_1 15 rfl rfl)
theorem dX55_act_42 : decode cX55_act 42 = .ok (.iconst (-1), 1) := dk_2 (dk_at dksX55_act_1 18 rfl rfl)
theorem dX55_act_43 : decode cX55_act 43 = .ok (.ireturn, 1) := dk_172 (dk_at dksX55_act_1 19 rfl rfl)
theorem dX55_act_44 : decode cX55_act 44 = .ok (.aload_n 0, 1) := dk_42 (dk_at dksX55_act_1 20 rfl rfl)
theorem dX55_act_45 : decode cX55_act 45 = .ok (.getfield 7, 3) := dk_180 0 7 (dk_at dksX55_act_1 21 rfl rfl)
theorem dX55_act_48 : decode cX55_act 48 = .ok (.aload_n 0, 1) := dk_42 (dk_at dksX55_act_2 0 rfl rfl)
theorem dX55_act_49 : decode cX55_act 49 = .ok (.getfield 89, 3) := dk_180 0 89 (dk_at dksX55_act_2 1 rfl rfl)
theorem dX55_act_52 : decode cX55_act 52 = .ok (.iload_n 1, 1) := dk_27 (dk_at dksX55_act_2 4 rfl rfl)
theorem dX55_act_53 : decode cX55_act 53 = .ok (.iastore, 1) := dk_79 (dk_at dksX55_act_2 5 rfl rfl)
theorem dX55_act_54 : decode cX55_act 54 = .ok (.aload_n 0, 1) := dk_42 (dk_at dksX55_act_2 6 rfl rfl)
theorem dX55_act_55 : decode cX55_act 55 = .ok (.getfield 13, 3) := dk_180 0 13 (dk_at dksX55_act_2 7 rfl rfl)
theorem dX55_act_58 : decode cX55_act 58 = .ok (.aload_n 0, 1) := dk_42 (dk_at dksX55_act_2 10 rfl rfl)
theorem dX55_act_59 : decode cX55_act 59 = .ok (.getfield 89, 3) := dk_180 0 89 (dk_at dksX55_act_2 11 rfl rfl)
theorem dX55_act_62 : decode cX55_act 62 = .ok (.iload_n 2, 1) := dk_28 (dk_at dksX55_act_2 14 rfl rfl)
theorem dX55_act_63 : decode cX55_act 63 = .ok (.iastore, 1) := dk_79 (dk_at dksX55_act_2 15 rfl rfl)
theorem dX55_act_64 : decode cX55_act 64 = .ok (.aload_n 0, 1) := dk_42 (dk_at dksX55_act_2 16 rfl rfl)
theorem dX55_act_65 : decode cX55_act 65 = .ok (.getfield 16, 3) := dk_180 0 16 (dk_at dksX55_act_2 17 rfl rfl)
theorem dX55_act_68 : decode cX55_act 68 = .ok (.aload_n 0, 1) := dk_42 (dk_at dksX55_act_2 20 rfl rfl)
theorem dX55_act_69 : decode cX55_act 69 = .ok (.getfield 89, 3) := dk_180 0 89 (dk_at dksX55_act_2 21 rfl rfl)
theorem dX55_act_72 : decode cX55_act 72 = .ok (.iload_n 3, 1) := dk_29 (dk_at dksX55_act_3 0 rfl rfl)
theorem dX55_act_73 : decode cX55_act 73 = .ok (.iastore, 1) := dk_79 (dk_at dksX55_act_3 1 rfl rfl)
theorem dX55_act_74 : decode cX55_act 74 = .ok (.aload_n 0, 1) := dk_42 (dk_at dksX55_act_3 2 rfl rfl)
theorem dX55_act_75 : decode cX55_act 75 = .ok (.getfield 19, 3) := dk_180 0 19 (dk_at dksX55_act_3 3 rfl rfl)
theorem dX55_act_78 : decode cX55_act 78 = .ok (.aload_n 0, 1) := dk_42 (dk_at dksX55_act_3 6 rfl rfl)
theorem dX55_act_79 : decode cX55_act 79 = .ok (.getfield 89, 3) := dk_180 0 89 (dk_at dksX55_act_3 7 rfl rfl)
theorem dX55_act_82 : decode cX55_act 82 = .ok (.lload 4, 2) := dk_22 4 (dk_at dksX55_act_3 10 rfl rfl)
theorem dX55_act_84 : decode cX55_act 84 = .ok (.lastore, 1) := dk_80 (dk_at dksX55_act_3 12 rfl rfl)
theorem dX55_act_85 : decode cX55_act 85 = .ok (.aload_n 0, 1) := dk_42 (dk_at dksX55_act_3 13 rfl rfl)
theorem dX55_act_86 : decode cX55_act 86 = .ok (.dup, 1) := dk_89 (dk_at dksX55_act_3 14 rfl rfl)
theorem dX55_act_87 : decode cX55_act 87 = .ok (.getfield 89, 3) := dk_180 0 89 (dk_at dksX55_act_3 15 rfl rfl)
theorem dX55_act_90 : decode cX55_act 90 = .ok (.iconst 1, 1) := dk_4 (dk_at dksX55_act_3 18 rfl rfl)
theorem dX55_act_91 : decode cX55_act 91 = .ok (.iadd, 1) := dk_96 (dk_at dksX55_act_3 19 rfl rfl)
theorem dX55_act_92 : decode cX55_act 92 = .ok (.putfield 89, 3) := dk_181 0 89 (dk_at dksX55_act_3 20 rfl rfl)
theorem dX55_act_95 : decode cX55_act 95 = .ok (.aload_n 0, 1) := dk_42 (dk_at dksX55_act_3 23 rfl rfl)
theorem dX55_act_96 : decode cX55_act 96 = .ok (.iconst 0, 1) := dk_3 (dk_at dksX55_act_4 0 rfl rfl)
theorem dX55_act_97 : decode cX55_act 97 = .ok (.putfield 100, 3) := dk_181 0 100 (dk_at dksX55_act_4 1 rfl rfl)
theorem dX55_act_100 : decode cX55_act 100 = .ok (.aload_n 0, 1) := dk_42 (dk_at dksX55_act_4 4 rfl rfl)
theorem dX55_act_101 : decode cX55_act 101 = .ok (.getfield 89, 3) := dk_180 0 89 (dk_at dksX55_act_4 5 rfl rfl)
theorem dX55_act_104 : decode cX55_act 104 = .ok (.iconst 1, 1) := dk_4 (dk_at dksX55_act_4 8 rfl rfl)
theorem dX55_act_105 : decode cX55_act 105 = .ok (.isub, 1) := dk_100 (dk_at dksX55_act_4 9 rfl rfl)
theorem dX55_act_106 : decode cX55_act 106 = .ok (.ireturn, 1) := dk_172 (dk_at dksX55_act_4 10 rfl rfl)
abbrev cX55_isKind : ByteArray := prog_57_method_5_code
def yX55_isKind : MethodName := ⟨RX55, "isKind", "(I)Z"⟩
def dkwX55_isKind_0 : List UInt8 := [26, 155, 0, 13, 26, 16, 6, 162, 0, 7, 4, 167, 0, 4, 3, 172]
abbrev dktX55_isKind_0 : List UInt8 := dkwX55_isKind_0 ++ []
theorem dksX55_isKind_0 : cX55_isKind.data.toList.drop 0 = dktX55_isKind_0 := by decide +kernel
theorem dX55_isKind_0 : decode cX55_isKind 0 = .ok (.iload_n 0, 1) := dk_26 (dk_at dksX55_isKind_0 0 rfl rfl)
theorem dX55_isKind_1 : decode cX55_isKind 1 = .ok (.ifCond .lt 13, 3) := dk_155 0 13 (dk_at dksX55_isKind_0 1 rfl rfl)
theorem dX55_isKind_4 : decode cX55_isKind 4 = .ok (.iload_n 0, 1) := dk_26 (dk_at dksX55_isKind_0 4 rfl rfl)
theorem dX55_isKind_5 : decode cX55_isKind 5 = .ok (.bipush 6, 2) := dk_16 6 (dk_at dksX55_isKind_0 5 rfl rfl)
theorem dX55_isKind_7 : decode cX55_isKind 7 = .ok (.if_icmp .ge 7, 3) := dk_162 0 7 (dk_at dksX55_isKind_0 7 rfl rfl)
theorem dX55_isKind_10 : decode cX55_isKind 10 = .ok (.iconst 1, 1) := dk_4 (dk_at dksX55_isKind_0 10 rfl rfl)
theorem dX55_isKind_11 : decode cX55_isKind 11 = .ok (.goto 4, 3) := dk_167 0 4 (dk_at dksX55_isKind_0 11 rfl rfl)
theorem dX55_isKind_14 : decode cX55_isKind 14 = .ok (.iconst 0, 1) := dk_3 (dk_at dksX55_isKind_0 14 rfl rfl)
theorem dX55_isKind_15 : decode cX55_isKind 15 = .ok (.ireturn, 1) := dk_172 (dk_at dksX55_isKind_0 15 rfl rfl)
abbrev cX55_isCents : ByteArray := prog_57_method_3_code
def yX55_isCents : MethodName := ⟨RX55, "isCents", "(J)Z"⟩
def dkwX55_isCents_0 : List UInt8 := [30, 9, 148, 155, 0, 15, 30, 20, 0, 85, 148, 157, 0, 7, 4, 167, 0, 4, 3, 172]
abbrev dktX55_isCents_0 : List UInt8 := dkwX55_isCents_0 ++ []
theorem dksX55_isCents_0 : cX55_isCents.data.toList.drop 0 = dktX55_isCents_0 := by decide +kernel
theorem dX55_isCents_0 : decode cX55_isCents 0 = .ok (.lload_n 0, 1) := dk_30 (dk_at dksX55_isCents_0 0 rfl rfl)
theorem dX55_isCents_1 : decode cX55_isCents 1 = .ok (.lconst 0, 1) := dk_9 (dk_at dksX55_isCents_0 1 rfl rfl)
theorem dX55_isCents_2 : decode cX55_isCents 2 = .ok (.lcmp, 1) := dk_148 (dk_at dksX55_isCents_0 2 rfl rfl)
theorem dX55_isCents_3 : decode cX55_isCents 3 = .ok (.ifCond .lt 15, 3) := dk_155 0 15 (dk_at dksX55_isCents_0 3 rfl rfl)
theorem dX55_isCents_6 : decode cX55_isCents 6 = .ok (.lload_n 0, 1) := dk_30 (dk_at dksX55_isCents_0 6 rfl rfl)
theorem dX55_isCents_7 : decode cX55_isCents 7 = .ok (.ldc2_w 85, 3) := dk_20 0 85 (dk_at dksX55_isCents_0 7 rfl rfl)
theorem dX55_isCents_10 : decode cX55_isCents 10 = .ok (.lcmp, 1) := dk_148 (dk_at dksX55_isCents_0 10 rfl rfl)
theorem dX55_isCents_11 : decode cX55_isCents 11 = .ok (.ifCond .gt 7, 3) := dk_157 0 7 (dk_at dksX55_isCents_0 11 rfl rfl)
theorem dX55_isCents_14 : decode cX55_isCents 14 = .ok (.iconst 1, 1) := dk_4 (dk_at dksX55_isCents_0 14 rfl rfl)
theorem dX55_isCents_15 : decode cX55_isCents 15 = .ok (.goto 4, 3) := dk_167 0 4 (dk_at dksX55_isCents_0 15 rfl rfl)
theorem dX55_isCents_18 : decode cX55_isCents 18 = .ok (.iconst 0, 1) := dk_3 (dk_at dksX55_isCents_0 18 rfl rfl)
theorem dX55_isCents_19 : decode cX55_isCents 19 = .ok (.ireturn, 1) := dk_172 (dk_at dksX55_isCents_0 19 rfl rfl)
abbrev cX55_before : ByteArray := prog_57_method_10_code
def yX55_before : MethodName := ⟨RX55, "before", "(II)Z"⟩
def dkwX55_before_2 : List UInt8 := [181, 0, 100, 4, 172]
abbrev dktX55_before_2 : List UInt8 := dkwX55_before_2 ++ []
def dkwX55_before_1 : List UInt8 := [182, 0, 107, 153, 0, 5, 3, 172, 42, 180, 0, 27, 16, 10, 28, 104, 27, 96, 4, 84, 42, 3]
abbrev dktX55_before_1 : List UInt8 := dkwX55_before_1 ++ dktX55_before_2
def dkwX55_before_0 : List UInt8 := [42, 27, 182, 0, 104, 153, 0, 25, 42, 28, 182, 0, 104, 153, 0, 17, 27, 28, 159, 0, 12, 42, 27, 28]
abbrev dktX55_before_0 : List UInt8 := dkwX55_before_0 ++ dktX55_before_1
theorem dksX55_before_0 : cX55_before.data.toList.drop 0 = dktX55_before_0 := by decide +kernel
theorem dksX55_before_1 : cX55_before.data.toList.drop 24 = dktX55_before_1 := dk_seg dksX55_before_0 24 rfl rfl
theorem dksX55_before_2 : cX55_before.data.toList.drop 46 = dktX55_before_2 := dk_seg dksX55_before_1 22 rfl rfl
theorem dX55_before_0 : decode cX55_before 0 = .ok (.aload_n 0, 1) := dk_42 (dk_at dksX55_before_0 0 rfl rfl)
theorem dX55_before_1 : decode cX55_before 1 = .ok (.iload_n 1, 1) := dk_27 (dk_at dksX55_before_0 1 rfl rfl)
theorem dX55_before_2 : decode cX55_before 2 = .ok (.invokevirtual 104, 3) := dk_182 0 104 (dk_at dksX55_before_0 2 rfl rfl)
theorem dX55_before_5 : decode cX55_before 5 = .ok (.ifCond .eq 25, 3) := dk_153 0 25 (dk_at dksX55_before_0 5 rfl rfl)
theorem dX55_before_8 : decode cX55_before 8 = .ok (.aload_n 0, 1) := dk_42 (dk_at dksX55_before_0 8 rfl rfl)
theorem dX55_before_9 : decode cX55_before 9 = .ok (.iload_n 2, 1) := dk_28 (dk_at dksX55_before_0 9 rfl rfl)
theorem dX55_before_10 : decode cX55_before 10 = .ok (.invokevirtual 104, 3) := dk_182 0 104 (dk_at dksX55_before_0 10 rfl rfl)
theorem dX55_before_13 : decode cX55_before 13 = .ok (.ifCond .eq 17, 3) := dk_153 0 17 (dk_at dksX55_before_0 13 rfl rfl)
theorem dX55_before_16 : decode cX55_before 16 = .ok (.iload_n 1, 1) := dk_27 (dk_at dksX55_before_0 16 rfl rfl)
theorem dX55_before_17 : decode cX55_before 17 = .ok (.iload_n 2, 1) := dk_28 (dk_at dksX55_before_0 17 rfl rfl)
theorem dX55_before_18 : decode cX55_before 18 = .ok (.if_icmp .eq 12, 3) := dk_159 0 12 (dk_at dksX55_before_0 18 rfl rfl)
theorem dX55_before_21 : decode cX55_before 21 = .ok (.aload_n 0, 1) := dk_42 (dk_at dksX55_before_0 21 rfl rfl)
theorem dX55_before_22 : decode cX55_before 22 = .ok (.iload_n 1, 1) := dk_27 (dk_at dksX55_before_0 22 rfl rfl)
theorem dX55_before_23 : decode cX55_before 23 = .ok (.iload_n 2, 1) := dk_28 (dk_at dksX55_before_0 23 rfl rfl)
theorem dX55_before_24 : decode cX55_before 24 = .ok (.invokevirtual 107, 3) := dk_182 0 107 (dk_at dksX55_before_1 0 rfl rfl)
theorem dX55_before_27 : decode cX55_before 27 = .ok (.ifCond .eq 5, 3) := dk_153 0 5 (dk_at dksX55_before_1 3 rfl rfl)
theorem dX55_before_30 : decode cX55_before 30 = .ok (.iconst 0, 1) := dk_3 (dk_at dksX55_before_1 6 rfl rfl)
theorem dX55_before_31 : decode cX55_before 31 = .ok (.ireturn, 1) := dk_172 (dk_at dksX55_before_1 7 rfl rfl)
theorem dX55_before_32 : decode cX55_before 32 = .ok (.aload_n 0, 1) := dk_42 (dk_at dksX55_before_1 8 rfl rfl)
theorem dX55_before_33 : decode cX55_before 33 = .ok (.getfield 27, 3) := dk_180 0 27 (dk_at dksX55_before_1 9 rfl rfl)
theorem dX55_before_36 : decode cX55_before 36 = .ok (.bipush 10, 2) := dk_16 10 (dk_at dksX55_before_1 12 rfl rfl)
theorem dX55_before_38 : decode cX55_before 38 = .ok (.iload_n 2, 1) := dk_28 (dk_at dksX55_before_1 14 rfl rfl)
theorem dX55_before_39 : decode cX55_before 39 = .ok (.imul, 1) := dk_104 (dk_at dksX55_before_1 15 rfl rfl)
theorem dX55_before_40 : decode cX55_before 40 = .ok (.iload_n 1, 1) := dk_27 (dk_at dksX55_before_1 16 rfl rfl)
theorem dX55_before_41 : decode cX55_before 41 = .ok (.iadd, 1) := dk_96 (dk_at dksX55_before_1 17 rfl rfl)
theorem dX55_before_42 : decode cX55_before 42 = .ok (.iconst 1, 1) := dk_4 (dk_at dksX55_before_1 18 rfl rfl)
theorem dX55_before_43 : decode cX55_before 43 = .ok (.bastore, 1) := dk_84 (dk_at dksX55_before_1 19 rfl rfl)
theorem dX55_before_44 : decode cX55_before 44 = .ok (.aload_n 0, 1) := dk_42 (dk_at dksX55_before_1 20 rfl rfl)
theorem dX55_before_45 : decode cX55_before 45 = .ok (.iconst 0, 1) := dk_3 (dk_at dksX55_before_1 21 rfl rfl)
theorem dX55_before_46 : decode cX55_before 46 = .ok (.putfield 100, 3) := dk_181 0 100 (dk_at dksX55_before_2 0 rfl rfl)
theorem dX55_before_49 : decode cX55_before 49 = .ok (.iconst 1, 1) := dk_4 (dk_at dksX55_before_2 3 rfl rfl)
theorem dX55_before_50 : decode cX55_before 50 = .ok (.ireturn, 1) := dk_172 (dk_at dksX55_before_2 4 rfl rfl)
abbrev cX55_isAct : ByteArray := prog_57_method_7_code
def yX55_isAct : MethodName := ⟨RX55, "isAct", "(I)Z"⟩
def dkwX55_isAct_0 : List UInt8 := [27, 155, 0, 15, 27, 42, 180, 0, 89, 162, 0, 7, 4, 167, 0, 4, 3, 172]
abbrev dktX55_isAct_0 : List UInt8 := dkwX55_isAct_0 ++ []
theorem dksX55_isAct_0 : cX55_isAct.data.toList.drop 0 = dktX55_isAct_0 := by decide +kernel
theorem dX55_isAct_0 : decode cX55_isAct 0 = .ok (.iload_n 1, 1) := dk_27 (dk_at dksX55_isAct_0 0 rfl rfl)
theorem dX55_isAct_1 : decode cX55_isAct 1 = .ok (.ifCond .lt 15, 3) := dk_155 0 15 (dk_at dksX55_isAct_0 1 rfl rfl)
theorem dX55_isAct_4 : decode cX55_isAct 4 = .ok (.iload_n 1, 1) := dk_27 (dk_at dksX55_isAct_0 4 rfl rfl)
theorem dX55_isAct_5 : decode cX55_isAct 5 = .ok (.aload_n 0, 1) := dk_42 (dk_at dksX55_isAct_0 5 rfl rfl)
theorem dX55_isAct_6 : decode cX55_isAct 6 = .ok (.getfield 89, 3) := dk_180 0 89 (dk_at dksX55_isAct_0 6 rfl rfl)
theorem dX55_isAct_9 : decode cX55_isAct 9 = .ok (.if_icmp .ge 7, 3) := dk_162 0 7 (dk_at dksX55_isAct_0 9 rfl rfl)
theorem dX55_isAct_12 : decode cX55_isAct 12 = .ok (.iconst 1, 1) := dk_4 (dk_at dksX55_isAct_0 12 rfl rfl)
theorem dX55_isAct_13 : decode cX55_isAct 13 = .ok (.goto 4, 3) := dk_167 0 4 (dk_at dksX55_isAct_0 13 rfl rfl)
theorem dX55_isAct_16 : decode cX55_isAct 16 = .ok (.iconst 0, 1) := dk_3 (dk_at dksX55_isAct_0 16 rfl rfl)
theorem dX55_isAct_17 : decode cX55_isAct 17 = .ok (.ireturn, 1) := dk_172 (dk_at dksX55_isAct_0 17 rfl rfl)
abbrev cX55_leadsTo : ByteArray := prog_57_method_9_code
def yX55_leadsTo : MethodName := ⟨RX55, "leadsTo", "(II)Z"⟩
def dkwX55_leadsTo_4 : List UInt8 := [167, 255, 171, 29, 28, 122, 4, 126, 4, 160, 0, 7, 4, 167, 0, 4, 3, 172]
abbrev dktX55_leadsTo_4 : List UInt8 := dkwX55_leadsTo_4 ++ []
def dkwX55_leadsTo_3 : List UInt8 := [120, 128, 167, 0, 4, 29, 62, 132, 6, 1, 167, 255, 207, 132, 5, 1, 167, 255, 189, 132, 4, 1]
abbrev dktX55_leadsTo_3 : List UInt8 := dkwX55_leadsTo_3 ++ dktX55_leadsTo_4
def dkwX55_leadsTo_2 : List UInt8 := [4, 160, 0, 28, 42, 180, 0, 27, 16, 10, 21, 5, 104, 21, 6, 96, 51, 153, 0, 12, 29, 4, 21, 6]
abbrev dktX55_leadsTo_2 : List UInt8 := dkwX55_leadsTo_2 ++ dktX55_leadsTo_3
def dkwX55_leadsTo_1 : List UInt8 := [180, 0, 89, 162, 0, 64, 3, 54, 6, 21, 6, 42, 180, 0, 89, 162, 0, 46, 29, 21, 5, 122, 4, 126]
abbrev dktX55_leadsTo_1 : List UInt8 := dkwX55_leadsTo_1 ++ dktX55_leadsTo_2
def dkwX55_leadsTo_0 : List UInt8 := [4, 27, 120, 62, 3, 54, 4, 21, 4, 42, 180, 0, 89, 162, 0, 82, 3, 54, 5, 21, 5, 42]
abbrev dktX55_leadsTo_0 : List UInt8 := dkwX55_leadsTo_0 ++ dktX55_leadsTo_1
theorem dksX55_leadsTo_0 : cX55_leadsTo.data.toList.drop 0 = dktX55_leadsTo_0 := by decide +kernel
theorem dksX55_leadsTo_1 : cX55_leadsTo.data.toList.drop 22 = dktX55_leadsTo_1 := dk_seg dksX55_leadsTo_0 22 rfl rfl
theorem dksX55_leadsTo_2 : cX55_leadsTo.data.toList.drop 46 = dktX55_leadsTo_2 := dk_seg dksX55_leadsTo_1 24 rfl rfl
theorem dksX55_leadsTo_3 : cX55_leadsTo.data.toList.drop 70 = dktX55_leadsTo_3 := dk_seg dksX55_leadsTo_2 24 rfl rfl
theorem dksX55_leadsTo_4 : cX55_leadsTo.data.toList.drop 92 = dktX55_leadsTo_4 := dk_seg dksX55_leadsTo_3 22 rfl rfl
theorem dX55_leadsTo_0 : decode cX55_leadsTo 0 = .ok (.iconst 1, 1) := dk_4 (dk_at dksX55_leadsTo_0 0 rfl rfl)
theorem dX55_leadsTo_1 : decode cX55_leadsTo 1 = .ok (.iload_n 1, 1) := dk_27 (dk_at dksX55_leadsTo_0 1 rfl rfl)
theorem dX55_leadsTo_2 : decode cX55_leadsTo 2 = .ok (.ishl, 1) := dk_120 (dk_at dksX55_leadsTo_0 2 rfl rfl)
theorem dX55_leadsTo_3 : decode cX55_leadsTo 3 = .ok (.istore_n 3, 1) := dk_62 (dk_at dksX55_leadsTo_0 3 rfl rfl)
theorem dX55_leadsTo_4 : decode cX55_leadsTo 4 = .ok (.iconst 0, 1) := dk_3 (dk_at dksX55_leadsTo_0 4 rfl rfl)
theorem dX55_leadsTo_5 : decode cX55_leadsTo 5 = .ok (.istore 4, 2) := dk_54 4 (dk_at dksX55_leadsTo_0 5 rfl rfl)
theorem dX55_leadsTo_7 : decode cX55_leadsTo 7 = .ok (.iload 4, 2) := dk_21 4 (dk_at dksX55_leadsTo_0 7 rfl rfl)
theorem dX55_leadsTo_9 : decode cX55_leadsTo 9 = .ok (.aload_n 0, 1) := dk_42 (dk_at dksX55_leadsTo_0 9 rfl rfl)
theorem dX55_leadsTo_10 : decode cX55_leadsTo 10 = .ok (.getfield 89, 3) := dk_180 0 89 (dk_at dksX55_leadsTo_0 10 rfl rfl)
theorem dX55_leadsTo_13 : decode cX55_leadsTo 13 = .ok (.if_icmp .ge 82, 3) := dk_162 0 82 (dk_at dksX55_leadsTo_0 13 rfl rfl)
theorem dX55_leadsTo_16 : decode cX55_leadsTo 16 = .ok (.iconst 0, 1) := dk_3 (dk_at dksX55_leadsTo_0 16 rfl rfl)
theorem dX55_leadsTo_17 : decode cX55_leadsTo 17 = .ok (.istore 5, 2) := dk_54 5 (dk_at dksX55_leadsTo_0 17 rfl rfl)
theorem dX55_leadsTo_19 : decode cX55_leadsTo 19 = .ok (.iload 5, 2) := dk_21 5 (dk_at dksX55_leadsTo_0 19 rfl rfl)
theorem dX55_leadsTo_21 : decode cX55_leadsTo 21 = .ok (.aload_n 0, 1) := dk_42 (dk_at dksX55_leadsTo_0 21 rfl rfl)
theorem dX55_leadsTo_22 : decode cX55_leadsTo 22 = .ok (.getfield 89, 3) := dk_180 0 89 (dk_at dksX55_leadsTo_1 0 rfl rfl)
theorem dX55_leadsTo_25 : decode cX55_leadsTo 25 = .ok (.if_icmp .ge 64, 3) := dk_162 0 64 (dk_at dksX55_leadsTo_1 3 rfl rfl)
theorem dX55_leadsTo_28 : decode cX55_leadsTo 28 = .ok (.iconst 0, 1) := dk_3 (dk_at dksX55_leadsTo_1 6 rfl rfl)
theorem dX55_leadsTo_29 : decode cX55_leadsTo 29 = .ok (.istore 6, 2) := dk_54 6 (dk_at dksX55_leadsTo_1 7 rfl rfl)
theorem dX55_leadsTo_31 : decode cX55_leadsTo 31 = .ok (.iload 6, 2) := dk_21 6 (dk_at dksX55_leadsTo_1 9 rfl rfl)
theorem dX55_leadsTo_33 : decode cX55_leadsTo 33 = .ok (.aload_n 0, 1) := dk_42 (dk_at dksX55_leadsTo_1 11 rfl rfl)
theorem dX55_leadsTo_34 : decode cX55_leadsTo 34 = .ok (.getfield 89, 3) := dk_180 0 89 (dk_at dksX55_leadsTo_1 12 rfl rfl)
theorem dX55_leadsTo_37 : decode cX55_leadsTo 37 = .ok (.if_icmp .ge 46, 3) := dk_162 0 46 (dk_at dksX55_leadsTo_1 15 rfl rfl)
theorem dX55_leadsTo_40 : decode cX55_leadsTo 40 = .ok (.iload_n 3, 1) := dk_29 (dk_at dksX55_leadsTo_1 18 rfl rfl)
theorem dX55_leadsTo_41 : decode cX55_leadsTo 41 = .ok (.iload 5, 2) := dk_21 5 (dk_at dksX55_leadsTo_1 19 rfl rfl)
theorem dX55_leadsTo_43 : decode cX55_leadsTo 43 = .ok (.ishr, 1) := dk_122 (dk_at dksX55_leadsTo_1 21 rfl rfl)
theorem dX55_leadsTo_44 : decode cX55_leadsTo 44 = .ok (.iconst 1, 1) := dk_4 (dk_at dksX55_leadsTo_1 22 rfl rfl)
theorem dX55_leadsTo_45 : decode cX55_leadsTo 45 = .ok (.iand, 1) := dk_126 (dk_at dksX55_leadsTo_1 23 rfl rfl)
theorem dX55_leadsTo_46 : decode cX55_leadsTo 46 = .ok (.iconst 1, 1) := dk_4 (dk_at dksX55_leadsTo_2 0 rfl rfl)
theorem dX55_leadsTo_47 : decode cX55_leadsTo 47 = .ok (.if_icmp .ne 28, 3) := dk_160 0 28 (dk_at dksX55_leadsTo_2 1 rfl rfl)
theorem dX55_leadsTo_50 : decode cX55_leadsTo 50 = .ok (.aload_n 0, 1) := dk_42 (dk_at dksX55_leadsTo_2 4 rfl rfl)
theorem dX55_leadsTo_51 : decode cX55_leadsTo 51 = .ok (.getfield 27, 3) := dk_180 0 27 (dk_at dksX55_leadsTo_2 5 rfl rfl)
theorem dX55_leadsTo_54 : decode cX55_leadsTo 54 = .ok (.bipush 10, 2) := dk_16 10 (dk_at dksX55_leadsTo_2 8 rfl rfl)
theorem dX55_leadsTo_56 : decode cX55_leadsTo 56 = .ok (.iload 5, 2) := dk_21 5 (dk_at dksX55_leadsTo_2 10 rfl rfl)
theorem dX55_leadsTo_58 : decode cX55_leadsTo 58 = .ok (.imul, 1) := dk_104 (dk_at dksX55_leadsTo_2 12 rfl rfl)
theorem dX55_leadsTo_59 : decode cX55_leadsTo 59 = .ok (.iload 6, 2) := dk_21 6 (dk_at dksX55_leadsTo_2 13 rfl rfl)
theorem dX55_leadsTo_61 : decode cX55_leadsTo 61 = .ok (.iadd, 1) := dk_96 (dk_at dksX55_leadsTo_2 15 rfl rfl)
theorem dX55_leadsTo_62 : decode cX55_leadsTo 62 = .ok (.baload, 1) := dk_51 (dk_at dksX55_leadsTo_2 16 rfl rfl)
theorem dX55_leadsTo_63 : decode cX55_leadsTo 63 = .ok (.ifCond .eq 12, 3) := dk_153 0 12 (dk_at dksX55_leadsTo_2 17 rfl rfl)
theorem dX55_leadsTo_66 : decode cX55_leadsTo 66 = .ok (.iload_n 3, 1) := dk_29 (dk_at dksX55_leadsTo_2 20 rfl rfl)
theorem dX55_leadsTo_67 : decode cX55_leadsTo 67 = .ok (.iconst 1, 1) := dk_4 (dk_at dksX55_leadsTo_2 21 rfl rfl)
theorem dX55_leadsTo_68 : decode cX55_leadsTo 68 = .ok (.iload 6, 2) := dk_21 6 (dk_at dksX55_leadsTo_2 22 rfl rfl)
theorem dX55_leadsTo_70 : decode cX55_leadsTo 70 = .ok (.ishl, 1) := dk_120 (dk_at dksX55_leadsTo_3 0 rfl rfl)
theorem dX55_leadsTo_71 : decode cX55_leadsTo 71 = .ok (.ior, 1) := dk_128 (dk_at dksX55_leadsTo_3 1 rfl rfl)
theorem dX55_leadsTo_72 : decode cX55_leadsTo 72 = .ok (.goto 4, 3) := dk_167 0 4 (dk_at dksX55_leadsTo_3 2 rfl rfl)
theorem dX55_leadsTo_75 : decode cX55_leadsTo 75 = .ok (.iload_n 3, 1) := dk_29 (dk_at dksX55_leadsTo_3 5 rfl rfl)
theorem dX55_leadsTo_76 : decode cX55_leadsTo 76 = .ok (.istore_n 3, 1) := dk_62 (dk_at dksX55_leadsTo_3 6 rfl rfl)
theorem dX55_leadsTo_77 : decode cX55_leadsTo 77 = .ok (.iinc 6 1, 3) := dk_132 6 1 (dk_at dksX55_leadsTo_3 7 rfl rfl)
theorem dX55_leadsTo_80 : decode cX55_leadsTo 80 = .ok (.goto (-49), 3) := dk_167 255 207 (dk_at dksX55_leadsTo_3 10 rfl rfl)
theorem dX55_leadsTo_83 : decode cX55_leadsTo 83 = .ok (.iinc 5 1, 3) := dk_132 5 1 (dk_at dksX55_leadsTo_3 13 rfl rfl)
theorem dX55_leadsTo_86 : decode cX55_leadsTo 86 = .ok (.goto (-67), 3) := dk_167 255 189 (dk_at dksX55_leadsTo_3 16 rfl rfl)
theorem dX55_leadsTo_89 : decode cX55_leadsTo 89 = .ok (.iinc 4 1, 3) := dk_132 4 1 (dk_at dksX55_leadsTo_3 19 rfl rfl)
theorem dX55_leadsTo_92 : decode cX55_leadsTo 92 = .ok (.goto (-85), 3) := dk_167 255 171 (dk_at dksX55_leadsTo_4 0 rfl rfl)
theorem dX55_leadsTo_95 : decode cX55_leadsTo 95 = .ok (.iload_n 3, 1) := dk_29 (dk_at dksX55_leadsTo_4 3 rfl rfl)
theorem dX55_leadsTo_96 : decode cX55_leadsTo 96 = .ok (.iload_n 2, 1) := dk_28 (dk_at dksX55_leadsTo_4 4 rfl rfl)
theorem dX55_leadsTo_97 : decode cX55_leadsTo 97 = .ok (.ishr, 1) := dk_122 (dk_at dksX55_leadsTo_4 5 rfl rfl)
theorem dX55_leadsTo_98 : decode cX55_leadsTo 98 = .ok (.iconst 1, 1) := dk_4 (dk_at dksX55_leadsTo_4 6 rfl rfl)
theorem dX55_leadsTo_99 : decode cX55_leadsTo 99 = .ok (.iand, 1) := dk_126 (dk_at dksX55_leadsTo_4 7 rfl rfl)
theorem dX55_leadsTo_100 : decode cX55_leadsTo 100 = .ok (.iconst 1, 1) := dk_4 (dk_at dksX55_leadsTo_4 8 rfl rfl)
theorem dX55_leadsTo_101 : decode cX55_leadsTo 101 = .ok (.if_icmp .ne 7, 3) := dk_160 0 7 (dk_at dksX55_leadsTo_4 9 rfl rfl)
theorem dX55_leadsTo_104 : decode cX55_leadsTo 104 = .ok (.iconst 1, 1) := dk_4 (dk_at dksX55_leadsTo_4 12 rfl rfl)
theorem dX55_leadsTo_105 : decode cX55_leadsTo 105 = .ok (.goto 4, 3) := dk_167 0 4 (dk_at dksX55_leadsTo_4 13 rfl rfl)
theorem dX55_leadsTo_108 : decode cX55_leadsTo 108 = .ok (.iconst 0, 1) := dk_3 (dk_at dksX55_leadsTo_4 16 rfl rfl)
theorem dX55_leadsTo_109 : decode cX55_leadsTo 109 = .ok (.ireturn, 1) := dk_172 (dk_at dksX55_leadsTo_4 17 rfl rfl)
abbrev cX55_change : ByteArray := prog_57_method_11_code
def yX55_change : MethodName := ⟨RX55, "change", "(IIJ)Z"⟩
def dkwX55_change_1 : List UInt8 := [154, 0, 5, 3, 172, 42, 180, 0, 30, 16, 6, 27, 104, 28, 96, 33, 80, 42, 3, 181, 0, 100, 4, 172]
abbrev dktX55_change_1 : List UInt8 := dkwX55_change_1 ++ []
def dkwX55_change_0 : List UInt8 := [27, 184, 0, 92, 153, 0, 22, 28, 184, 0, 92, 153, 0, 15, 27, 28, 159, 0, 10, 33, 184, 0, 96]
abbrev dktX55_change_0 : List UInt8 := dkwX55_change_0 ++ dktX55_change_1
theorem dksX55_change_0 : cX55_change.data.toList.drop 0 = dktX55_change_0 := by decide +kernel
theorem dksX55_change_1 : cX55_change.data.toList.drop 23 = dktX55_change_1 := dk_seg dksX55_change_0 23 rfl rfl
theorem dX55_change_0 : decode cX55_change 0 = .ok (.iload_n 1, 1) := dk_27 (dk_at dksX55_change_0 0 rfl rfl)
theorem dX55_change_1 : decode cX55_change 1 = .ok (.invokestatic 92, 3) := dk_184 0 92 (dk_at dksX55_change_0 1 rfl rfl)
theorem dX55_change_4 : decode cX55_change 4 = .ok (.ifCond .eq 22, 3) := dk_153 0 22 (dk_at dksX55_change_0 4 rfl rfl)
theorem dX55_change_7 : decode cX55_change 7 = .ok (.iload_n 2, 1) := dk_28 (dk_at dksX55_change_0 7 rfl rfl)
theorem dX55_change_8 : decode cX55_change 8 = .ok (.invokestatic 92, 3) := dk_184 0 92 (dk_at dksX55_change_0 8 rfl rfl)
theorem dX55_change_11 : decode cX55_change 11 = .ok (.ifCond .eq 15, 3) := dk_153 0 15 (dk_at dksX55_change_0 11 rfl rfl)
theorem dX55_change_14 : decode cX55_change 14 = .ok (.iload_n 1, 1) := dk_27 (dk_at dksX55_change_0 14 rfl rfl)
theorem dX55_change_15 : decode cX55_change 15 = .ok (.iload_n 2, 1) := dk_28 (dk_at dksX55_change_0 15 rfl rfl)
theorem dX55_change_16 : decode cX55_change 16 = .ok (.if_icmp .eq 10, 3) := dk_159 0 10 (dk_at dksX55_change_0 16 rfl rfl)
theorem dX55_change_19 : decode cX55_change 19 = .ok (.lload_n 3, 1) := dk_33 (dk_at dksX55_change_0 19 rfl rfl)
theorem dX55_change_20 : decode cX55_change 20 = .ok (.invokestatic 96, 3) := dk_184 0 96 (dk_at dksX55_change_0 20 rfl rfl)
theorem dX55_change_23 : decode cX55_change 23 = .ok (.ifCond .ne 5, 3) := dk_154 0 5 (dk_at dksX55_change_1 0 rfl rfl)
theorem dX55_change_26 : decode cX55_change 26 = .ok (.iconst 0, 1) := dk_3 (dk_at dksX55_change_1 3 rfl rfl)
theorem dX55_change_27 : decode cX55_change 27 = .ok (.ireturn, 1) := dk_172 (dk_at dksX55_change_1 4 rfl rfl)
theorem dX55_change_28 : decode cX55_change 28 = .ok (.aload_n 0, 1) := dk_42 (dk_at dksX55_change_1 5 rfl rfl)
theorem dX55_change_29 : decode cX55_change 29 = .ok (.getfield 30, 3) := dk_180 0 30 (dk_at dksX55_change_1 6 rfl rfl)
theorem dX55_change_32 : decode cX55_change 32 = .ok (.bipush 6, 2) := dk_16 6 (dk_at dksX55_change_1 9 rfl rfl)
theorem dX55_change_34 : decode cX55_change 34 = .ok (.iload_n 1, 1) := dk_27 (dk_at dksX55_change_1 11 rfl rfl)
theorem dX55_change_35 : decode cX55_change 35 = .ok (.imul, 1) := dk_104 (dk_at dksX55_change_1 12 rfl rfl)
theorem dX55_change_36 : decode cX55_change 36 = .ok (.iload_n 2, 1) := dk_28 (dk_at dksX55_change_1 13 rfl rfl)
theorem dX55_change_37 : decode cX55_change 37 = .ok (.iadd, 1) := dk_96 (dk_at dksX55_change_1 14 rfl rfl)
theorem dX55_change_38 : decode cX55_change 38 = .ok (.lload_n 3, 1) := dk_33 (dk_at dksX55_change_1 15 rfl rfl)
theorem dX55_change_39 : decode cX55_change 39 = .ok (.lastore, 1) := dk_80 (dk_at dksX55_change_1 16 rfl rfl)
theorem dX55_change_40 : decode cX55_change 40 = .ok (.aload_n 0, 1) := dk_42 (dk_at dksX55_change_1 17 rfl rfl)
theorem dX55_change_41 : decode cX55_change 41 = .ok (.iconst 0, 1) := dk_3 (dk_at dksX55_change_1 18 rfl rfl)
theorem dX55_change_42 : decode cX55_change 42 = .ok (.putfield 100, 3) := dk_181 0 100 (dk_at dksX55_change_1 19 rfl rfl)
theorem dX55_change_45 : decode cX55_change 45 = .ok (.iconst 1, 1) := dk_4 (dk_at dksX55_change_1 22 rfl rfl)
theorem dX55_change_46 : decode cX55_change 46 = .ok (.ireturn, 1) := dk_172 (dk_at dksX55_change_1 23 rfl rfl)
abbrev cX55_turn : ByteArray := prog_57_method_12_code
def yX55_turn : MethodName := ⟨RX55, "turn", "(IIJ)Z"⟩
def dkwX55_turn_1 : List UInt8 := [154, 0, 5, 3, 172, 42, 180, 0, 33, 16, 6, 27, 104, 28, 96, 33, 80, 42, 3, 181, 0, 100, 4, 172]
abbrev dktX55_turn_1 : List UInt8 := dkwX55_turn_1 ++ []
def dkwX55_turn_0 : List UInt8 := [27, 184, 0, 92, 153, 0, 22, 28, 184, 0, 92, 153, 0, 15, 27, 28, 159, 0, 10, 33, 184, 0, 96]
abbrev dktX55_turn_0 : List UInt8 := dkwX55_turn_0 ++ dktX55_turn_1
theorem dksX55_turn_0 : cX55_turn.data.toList.drop 0 = dktX55_turn_0 := by decide +kernel
theorem dksX55_turn_1 : cX55_turn.data.toList.drop 23 = dktX55_turn_1 := dk_seg dksX55_turn_0 23 rfl rfl
theorem dX55_turn_0 : decode cX55_turn 0 = .ok (.iload_n 1, 1) := dk_27 (dk_at dksX55_turn_0 0 rfl rfl)
theorem dX55_turn_1 : decode cX55_turn 1 = .ok (.invokestatic 92, 3) := dk_184 0 92 (dk_at dksX55_turn_0 1 rfl rfl)
theorem dX55_turn_4 : decode cX55_turn 4 = .ok (.ifCond .eq 22, 3) := dk_153 0 22 (dk_at dksX55_turn_0 4 rfl rfl)
theorem dX55_turn_7 : decode cX55_turn 7 = .ok (.iload_n 2, 1) := dk_28 (dk_at dksX55_turn_0 7 rfl rfl)
theorem dX55_turn_8 : decode cX55_turn 8 = .ok (.invokestatic 92, 3) := dk_184 0 92 (dk_at dksX55_turn_0 8 rfl rfl)
theorem dX55_turn_11 : decode cX55_turn 11 = .ok (.ifCond .eq 15, 3) := dk_153 0 15 (dk_at dksX55_turn_0 11 rfl rfl)
theorem dX55_turn_14 : decode cX55_turn 14 = .ok (.iload_n 1, 1) := dk_27 (dk_at dksX55_turn_0 14 rfl rfl)
theorem dX55_turn_15 : decode cX55_turn 15 = .ok (.iload_n 2, 1) := dk_28 (dk_at dksX55_turn_0 15 rfl rfl)
theorem dX55_turn_16 : decode cX55_turn 16 = .ok (.if_icmp .eq 10, 3) := dk_159 0 10 (dk_at dksX55_turn_0 16 rfl rfl)
theorem dX55_turn_19 : decode cX55_turn 19 = .ok (.lload_n 3, 1) := dk_33 (dk_at dksX55_turn_0 19 rfl rfl)
theorem dX55_turn_20 : decode cX55_turn 20 = .ok (.invokestatic 96, 3) := dk_184 0 96 (dk_at dksX55_turn_0 20 rfl rfl)
theorem dX55_turn_23 : decode cX55_turn 23 = .ok (.ifCond .ne 5, 3) := dk_154 0 5 (dk_at dksX55_turn_1 0 rfl rfl)
theorem dX55_turn_26 : decode cX55_turn 26 = .ok (.iconst 0, 1) := dk_3 (dk_at dksX55_turn_1 3 rfl rfl)
theorem dX55_turn_27 : decode cX55_turn 27 = .ok (.ireturn, 1) := dk_172 (dk_at dksX55_turn_1 4 rfl rfl)
theorem dX55_turn_28 : decode cX55_turn 28 = .ok (.aload_n 0, 1) := dk_42 (dk_at dksX55_turn_1 5 rfl rfl)
theorem dX55_turn_29 : decode cX55_turn 29 = .ok (.getfield 33, 3) := dk_180 0 33 (dk_at dksX55_turn_1 6 rfl rfl)
theorem dX55_turn_32 : decode cX55_turn 32 = .ok (.bipush 6, 2) := dk_16 6 (dk_at dksX55_turn_1 9 rfl rfl)
theorem dX55_turn_34 : decode cX55_turn 34 = .ok (.iload_n 1, 1) := dk_27 (dk_at dksX55_turn_1 11 rfl rfl)
theorem dX55_turn_35 : decode cX55_turn 35 = .ok (.imul, 1) := dk_104 (dk_at dksX55_turn_1 12 rfl rfl)
theorem dX55_turn_36 : decode cX55_turn 36 = .ok (.iload_n 2, 1) := dk_28 (dk_at dksX55_turn_1 13 rfl rfl)
theorem dX55_turn_37 : decode cX55_turn 37 = .ok (.iadd, 1) := dk_96 (dk_at dksX55_turn_1 14 rfl rfl)
theorem dX55_turn_38 : decode cX55_turn 38 = .ok (.lload_n 3, 1) := dk_33 (dk_at dksX55_turn_1 15 rfl rfl)
theorem dX55_turn_39 : decode cX55_turn 39 = .ok (.lastore, 1) := dk_80 (dk_at dksX55_turn_1 16 rfl rfl)
theorem dX55_turn_40 : decode cX55_turn 40 = .ok (.aload_n 0, 1) := dk_42 (dk_at dksX55_turn_1 17 rfl rfl)
theorem dX55_turn_41 : decode cX55_turn 41 = .ok (.iconst 0, 1) := dk_3 (dk_at dksX55_turn_1 18 rfl rfl)
theorem dX55_turn_42 : decode cX55_turn 42 = .ok (.putfield 100, 3) := dk_181 0 100 (dk_at dksX55_turn_1 19 rfl rfl)
theorem dX55_turn_45 : decode cX55_turn 45 = .ok (.iconst 1, 1) := dk_4 (dk_at dksX55_turn_1 22 rfl rfl)
theorem dX55_turn_46 : decode cX55_turn 46 = .ok (.ireturn, 1) := dk_172 (dk_at dksX55_turn_1 23 rfl rfl)
abbrev cX55_worth : ByteArray := prog_57_method_13_code
def yX55_worth : MethodName := ⟨RX55, "worth", "(IJ)Z"⟩
def dkwX55_worth_1 : List UInt8 := [3, 181, 0, 100, 4, 172]
abbrev dktX55_worth_1 : List UInt8 := dkwX55_worth_1 ++ []
def dkwX55_worth_0 : List UInt8 := [27, 184, 0, 111, 153, 0, 10, 32, 184, 0, 114, 154, 0, 5, 3, 172, 42, 180, 0, 36, 27, 32, 80, 42]
abbrev dktX55_worth_0 : List UInt8 := dkwX55_worth_0 ++ dktX55_worth_1
theorem dksX55_worth_0 : cX55_worth.data.toList.drop 0 = dktX55_worth_0 := by decide +kernel
theorem dksX55_worth_1 : cX55_worth.data.toList.drop 24 = dktX55_worth_1 := dk_seg dksX55_worth_0 24 rfl rfl
theorem dX55_worth_0 : decode cX55_worth 0 = .ok (.iload_n 1, 1) := dk_27 (dk_at dksX55_worth_0 0 rfl rfl)
theorem dX55_worth_1 : decode cX55_worth 1 = .ok (.invokestatic 111, 3) := dk_184 0 111 (dk_at dksX55_worth_0 1 rfl rfl)
theorem dX55_worth_4 : decode cX55_worth 4 = .ok (.ifCond .eq 10, 3) := dk_153 0 10 (dk_at dksX55_worth_0 4 rfl rfl)
theorem dX55_worth_7 : decode cX55_worth 7 = .ok (.lload_n 2, 1) := dk_32 (dk_at dksX55_worth_0 7 rfl rfl)
theorem dX55_worth_8 : decode cX55_worth 8 = .ok (.invokestatic 114, 3) := dk_184 0 114 (dk_at dksX55_worth_0 8 rfl rfl)
theorem dX55_worth_11 : decode cX55_worth 11 = .ok (.ifCond .ne 5, 3) := dk_154 0 5 (dk_at dksX55_worth_0 11 rfl rfl)
theorem dX55_worth_14 : decode cX55_worth 14 = .ok (.iconst 0, 1) := dk_3 (dk_at dksX55_worth_0 14 rfl rfl)
theorem dX55_worth_15 : decode cX55_worth 15 = .ok (.ireturn, 1) := dk_172 (dk_at dksX55_worth_0 15 rfl rfl)
theorem dX55_worth_16 : decode cX55_worth 16 = .ok (.aload_n 0, 1) := dk_42 (dk_at dksX55_worth_0 16 rfl rfl)
theorem dX55_worth_17 : decode cX55_worth 17 = .ok (.getfield 36, 3) := dk_180 0 36 (dk_at dksX55_worth_0 17 rfl rfl)
theorem dX55_worth_20 : decode cX55_worth 20 = .ok (.iload_n 1, 1) := dk_27 (dk_at dksX55_worth_0 20 rfl rfl)
theorem dX55_worth_21 : decode cX55_worth 21 = .ok (.lload_n 2, 1) := dk_32 (dk_at dksX55_worth_0 21 rfl rfl)
theorem dX55_worth_22 : decode cX55_worth 22 = .ok (.lastore, 1) := dk_80 (dk_at dksX55_worth_0 22 rfl rfl)
theorem dX55_worth_23 : decode cX55_worth 23 = .ok (.aload_n 0, 1) := dk_42 (dk_at dksX55_worth_0 23 rfl rfl)
theorem dX55_worth_24 : decode cX55_worth 24 = .ok (.iconst 0, 1) := dk_3 (dk_at dksX55_worth_1 0 rfl rfl)
theorem dX55_worth_25 : decode cX55_worth 25 = .ok (.putfield 100, 3) := dk_181 0 100 (dk_at dksX55_worth_1 1 rfl rfl)
theorem dX55_worth_28 : decode cX55_worth 28 = .ok (.iconst 1, 1) := dk_4 (dk_at dksX55_worth_1 4 rfl rfl)
theorem dX55_worth_29 : decode cX55_worth 29 = .ok (.ireturn, 1) := dk_172 (dk_at dksX55_worth_1 5 rfl rfl)
abbrev cX55_isPart : ByteArray := prog_57_method_6_code
def yX55_isPart : MethodName := ⟨RX55, "isPart", "(I)Z"⟩
def dkwX55_isPart_0 : List UInt8 := [26, 155, 0, 13, 26, 16, 12, 162, 0, 7, 4, 167, 0, 4, 3, 172]
abbrev dktX55_isPart_0 : List UInt8 := dkwX55_isPart_0 ++ []
theorem dksX55_isPart_0 : cX55_isPart.data.toList.drop 0 = dktX55_isPart_0 := by decide +kernel
theorem dX55_isPart_0 : decode cX55_isPart 0 = .ok (.iload_n 0, 1) := dk_26 (dk_at dksX55_isPart_0 0 rfl rfl)
theorem dX55_isPart_1 : decode cX55_isPart 1 = .ok (.ifCond .lt 13, 3) := dk_155 0 13 (dk_at dksX55_isPart_0 1 rfl rfl)
theorem dX55_isPart_4 : decode cX55_isPart 4 = .ok (.iload_n 0, 1) := dk_26 (dk_at dksX55_isPart_0 4 rfl rfl)
theorem dX55_isPart_5 : decode cX55_isPart 5 = .ok (.bipush 12, 2) := dk_16 12 (dk_at dksX55_isPart_0 5 rfl rfl)
theorem dX55_isPart_7 : decode cX55_isPart 7 = .ok (.if_icmp .ge 7, 3) := dk_162 0 7 (dk_at dksX55_isPart_0 7 rfl rfl)
theorem dX55_isPart_10 : decode cX55_isPart 10 = .ok (.iconst 1, 1) := dk_4 (dk_at dksX55_isPart_0 10 rfl rfl)
theorem dX55_isPart_11 : decode cX55_isPart 11 = .ok (.goto 4, 3) := dk_167 0 4 (dk_at dksX55_isPart_0 11 rfl rfl)
theorem dX55_isPart_14 : decode cX55_isPart 14 = .ok (.iconst 0, 1) := dk_3 (dk_at dksX55_isPart_0 14 rfl rfl)
theorem dX55_isPart_15 : decode cX55_isPart 15 = .ok (.ireturn, 1) := dk_172 (dk_at dksX55_isPart_0 15 rfl rfl)
abbrev cX55_isWorth : ByteArray := prog_57_method_4_code
def yX55_isWorth : MethodName := ⟨RX55, "isWorth", "(J)Z"⟩
def dkwX55_isWorth_0 : List UInt8 := [30, 20, 0, 87, 148, 155, 0, 15, 30, 20, 0, 85, 148, 157, 0, 7, 4, 167, 0, 4, 3, 172]
abbrev dktX55_isWorth_0 : List UInt8 := dkwX55_isWorth_0 ++ []
theorem dksX55_isWorth_0 : cX55_isWorth.data.toList.drop 0 = dktX55_isWorth_0 := by decide +kernel
theorem dX55_isWorth_0 : decode cX55_isWorth 0 = .ok (.lload_n 0, 1) := dk_30 (dk_at dksX55_isWorth_0 0 rfl rfl)
theorem dX55_isWorth_1 : decode cX55_isWorth 1 = .ok (.ldc2_w 87, 3) := dk_20 0 87 (dk_at dksX55_isWorth_0 1 rfl rfl)
theorem dX55_isWorth_4 : decode cX55_isWorth 4 = .ok (.lcmp, 1) := dk_148 (dk_at dksX55_isWorth_0 4 rfl rfl)
theorem dX55_isWorth_5 : decode cX55_isWorth 5 = .ok (.ifCond .lt 15, 3) := dk_155 0 15 (dk_at dksX55_isWorth_0 5 rfl rfl)
theorem dX55_isWorth_8 : decode cX55_isWorth 8 = .ok (.lload_n 0, 1) := dk_30 (dk_at dksX55_isWorth_0 8 rfl rfl)
theorem dX55_isWorth_9 : decode cX55_isWorth 9 = .ok (.ldc2_w 85, 3) := dk_20 0 85 (dk_at dksX55_isWorth_0 9 rfl rfl)
theorem dX55_isWorth_12 : decode cX55_isWorth 12 = .ok (.lcmp, 1) := dk_148 (dk_at dksX55_isWorth_0 12 rfl rfl)
theorem dX55_isWorth_13 : decode cX55_isWorth 13 = .ok (.ifCond .gt 7, 3) := dk_157 0 7 (dk_at dksX55_isWorth_0 13 rfl rfl)
theorem dX55_isWorth_16 : decode cX55_isWorth 16 = .ok (.iconst 1, 1) := dk_4 (dk_at dksX55_isWorth_0 16 rfl rfl)
theorem dX55_isWorth_17 : decode cX55_isWorth 17 = .ok (.goto 4, 3) := dk_167 0 4 (dk_at dksX55_isWorth_0 17 rfl rfl)
theorem dX55_isWorth_20 : decode cX55_isWorth 20 = .ok (.iconst 0, 1) := dk_3 (dk_at dksX55_isWorth_0 20 rfl rfl)
theorem dX55_isWorth_21 : decode cX55_isWorth 21 = .ok (.ireturn, 1) := dk_172 (dk_at dksX55_isWorth_0 21 rfl rfl)
abbrev cX55_rest : ByteArray := prog_57_method_14_code
def yX55_rest : MethodName := ⟨RX55, "rest", "(JJ)Z"⟩
def dkwX55_rest_4 : List UInt8 := [167, 0, 7, 42, 180, 0, 119, 181, 0, 119, 42, 3, 181, 0, 100, 4, 172]
abbrev dktX55_rest_4 : List UInt8 := dkwX55_rest_4 ++ []
def dkwX55_rest_3 : List UInt8 := [42, 180, 0, 48, 21, 5, 33, 80, 42, 21, 5, 42, 180, 0, 119, 160, 0, 12, 42, 180, 0, 119, 4, 96]
abbrev dktX55_rest_3 : List UInt8 := dkwX55_rest_3 ++ dktX55_rest_4
def dkwX55_rest_2 : List UInt8 := [132, 5, 1, 167, 255, 231, 21, 5, 16, 16, 160, 0, 5, 3, 172, 42, 180, 0, 45, 21, 5, 31, 136, 79]
abbrev dktX55_rest_2 : List UInt8 := dkwX55_rest_2 ++ dktX55_rest_3
def dkwX55_rest_1 : List UInt8 := [54, 5, 21, 5, 42, 180, 0, 119, 162, 0, 22, 42, 180, 0, 45, 21, 5, 46, 133, 31, 148, 153, 0, 9]
abbrev dktX55_rest_1 : List UInt8 := dkwX55_rest_1 ++ dktX55_rest_2
def dkwX55_rest_0 : List UInt8 := [31, 9, 148, 155, 0, 18, 31, 20, 0, 117, 148, 157, 0, 10, 33, 184, 0, 114, 154, 0, 5, 3, 172, 3]
abbrev dktX55_rest_0 : List UInt8 := dkwX55_rest_0 ++ dktX55_rest_1
theorem dksX55_rest_0 : cX55_rest.data.toList.drop 0 = dktX55_rest_0 := by decide +kernel
theorem dksX55_rest_1 : cX55_rest.data.toList.drop 24 = dktX55_rest_1 := dk_seg dksX55_rest_0 24 rfl rfl
theorem dksX55_rest_2 : cX55_rest.data.toList.drop 48 = dktX55_rest_2 := dk_seg dksX55_rest_1 24 rfl rfl
theorem dksX55_rest_3 : cX55_rest.data.toList.drop 72 = dktX55_rest_3 := dk_seg dksX55_rest_2 24 rfl rfl
theorem dksX55_rest_4 : cX55_rest.data.toList.drop 96 = dktX55_rest_4 := dk_seg dksX55_rest_3 24 rfl rfl
theorem dX55_rest_0 : decode cX55_rest 0 = .ok (.lload_n 1, 1) := dk_31 (dk_at dksX55_rest_0 0 rfl rfl)
theorem dX55_rest_1 : decode cX55_rest 1 = .ok (.lconst 0, 1) := dk_9 (dk_at dksX55_rest_0 1 rfl rfl)
theorem dX55_rest_2 : decode cX55_rest 2 = .ok (.lcmp, 1) := dk_148 (dk_at dksX55_rest_0 2 rfl rfl)
theorem dX55_rest_3 : decode cX55_rest 3 = .ok (.ifCond .lt 18, 3) := dk_155 0 18 (dk_at dksX55_rest_0 3 rfl rfl)
theorem dX55_rest_6 : decode cX55_rest 6 = .ok (.lload_n 1, 1) := dk_31 (dk_at dksX55_rest_0 6 rfl rfl)
theorem dX55_rest_7 : decode cX55_rest 7 = .ok (.ldc2_w 117, 3) := dk_20 0 117 (dk_at dksX55_rest_0 7 rfl rfl)
theorem dX55_rest_10 : decode cX55_rest 10 = .ok (.lcmp, 1) := dk_148 (dk_at dksX55_rest_0 10 rfl rfl)
theorem dX55_rest_11 : decode cX55_rest 11 = .ok (.ifCond .gt 10, 3) := dk_157 0 10 (dk_at dksX55_rest_0 11 rfl rfl)
theorem dX55_rest_14 : decode cX55_rest 14 = .ok (.lload_n 3, 1) := dk_33 (dk_at dksX55_rest_0 14 rfl rfl)
theorem dX55_rest_15 : decode cX55_rest 15 = .ok (.invokestatic 114, 3) := dk_184 0 114 (dk_at dksX55_rest_0 15 rfl rfl)
theorem dX55_rest_18 : decode cX55_rest 18 = .ok (.ifCond .ne 5, 3) := dk_154 0 5 (dk_at dksX55_rest_0 18 rfl rfl)
theorem dX55_rest_21 : decode cX55_rest 21 = .ok (.iconst 0, 1) := dk_3 (dk_at dksX55_rest_0 21 rfl rfl)
theorem dX55_rest_22 : decode cX55_rest 22 = .ok (.ireturn, 1) := dk_172 (dk_at dksX55_rest_0 22 rfl rfl)
theorem dX55_rest_23 : decode cX55_rest 23 = .ok (.iconst 0, 1) := dk_3 (dk_at dksX55_rest_0 23 rfl rfl)
theorem dX55_rest_24 : decode cX55_rest 24 = .ok (.istore 5, 2) := dk_54 5 (dk_at dksX55_rest_1 0 rfl rfl)
theorem dX55_rest_26 : decode cX55_rest 26 = .ok (.iload 5, 2) := dk_21 5 (dk_at dksX55_rest_1 2 rfl rfl)
theorem dX55_rest_28 : decode cX55_rest 28 = .ok (.aload_n 0, 1) := dk_42 (dk_at dksX55_rest_1 4 rfl rfl)
theorem dX55_rest_29 : decode cX55_rest 29 = .ok (.getfield 119, 3) := dk_180 0 119 (dk_at dksX55_rest_1 5 rfl rfl)
theorem dX55_rest_32 : decode cX55_rest 32 = .ok (.if_icmp .ge 22, 3) := dk_162 0 22 (dk_at dksX55_rest_1 8 rfl rfl)
theorem dX55_rest_35 : decode cX55_rest 35 = .ok (.aload_n 0, 1) := dk_42 (dk_at dksX55_rest_1 11 rfl rfl)
theorem dX55_rest_36 : decode cX55_rest 36 = .ok (.getfield 45, 3) := dk_180 0 45 (dk_at dksX55_rest_1 12 rfl rfl)
theorem dX55_rest_39 : decode cX55_rest 39 = .ok (.iload 5, 2) := dk_21 5 (dk_at dksX55_rest_1 15 rfl rfl)
theorem dX55_rest_41 : decode cX55_rest 41 = .ok (.iaload, 1) := dk_46 (dk_at dksX55_rest_1 17 rfl rfl)
theorem dX55_rest_42 : decode cX55_rest 42 = .ok (.i2l, 1) := dk_133 (dk_at dksX55_rest_1 18 rfl rfl)
theorem dX55_rest_43 : decode cX55_rest 43 = .ok (.lload_n 1, 1) := dk_31 (dk_at dksX55_rest_1 19 rfl rfl)
theorem dX55_rest_44 : decode cX55_rest 44 = .ok (.lcmp, 1) := dk_148 (dk_at dksX55_rest_1 20 rfl rfl)
theorem dX55_rest_45 : decode cX55_rest 45 = .ok (.ifCond .eq 9, 3) := dk_153 0 9 (dk_at dksX55_rest_1 21 rfl rfl)
theorem dX55_rest_48 : decode cX55_rest 48 = .ok (.iinc 5 1, 3) := dk_132 5 1 (dk_at dksX55_rest_2 0 rfl rfl)
theorem dX55_rest_51 : decode cX55_rest 51 = .ok (.goto (-25), 3) := dk_167 255 231 (dk_at dksX55_rest_2 3 rfl rfl)
theorem dX55_rest_54 : decode cX55_rest 54 = .ok (.iload 5, 2) := dk_21 5 (dk_at dksX55_rest_2 6 rfl rfl)
theorem dX55_rest_56 : decode cX55_rest 56 = .ok (.bipush 16, 2) := dk_16 16 (dk_at dksX55_rest_2 8 rfl rfl)
theorem dX55_rest_58 : decode cX55_rest 58 = .ok (.if_icmp .ne 5, 3) := dk_160 0 5 (dk_at dksX55_rest_2 10 rfl rfl)
theorem dX55_rest_61 : decode cX55_rest 61 = .ok (.iconst 0, 1) := dk_3 (dk_at dksX55_rest_2 13 rfl rfl)
theorem dX55_rest_62 : decode cX55_rest 62 = .ok (.ireturn, 1) := dk_172 (dk_at dksX55_rest_2 14 rfl rfl)
theorem dX55_rest_63 : decode cX55_rest 63 = .ok (.aload_n 0, 1) := dk_42 (dk_at dksX55_rest_2 15 rfl rfl)
theorem dX55_rest_64 : decode cX55_rest 64 = .ok (.getfield 45, 3) := dk_180 0 45 (dk_at dksX55_rest_2 16 rfl rfl)
theorem dX55_rest_67 : decode cX55_rest 67 = .ok (.iload 5, 2) := dk_21 5 (dk_at dksX55_rest_2 19 rfl rfl)
theorem dX55_rest_69 : decode cX55_rest 69 = .ok (.lload_n 1, 1) := dk_31 (dk_at dksX55_rest_2 21 rfl rfl)
theorem dX55_rest_70 : decode cX55_rest 70 = .ok (.l2i, 1) := dk_136 (dk_at dksX55_rest_2 22 rfl rfl)
theorem dX55_rest_71 : decode cX55_rest 71 = .ok (.iastore, 1) := dk_79 (dk_at dksX55_rest_2 23 rfl rfl)
theorem dX55_rest_72 : decode cX55_rest 72 = .ok (.aload_n 0, 1) := dk_42 (dk_at dksX55_rest_3 0 rfl rfl)
theorem dX55_rest_73 : decode cX55_rest 73 = .ok (.getfield 48, 3) := dk_180 0 48 (dk_at dksX55_rest_3 1 rfl rfl)
theorem dX55_rest_76 : decode cX55_rest 76 = .ok (.iload 5, 2) := dk_21 5 (dk_at dksX55_rest_3 4 rfl rfl)
theorem dX55_rest_78 : decode cX55_rest 78 = .ok (.lload_n 3, 1) := dk_33 (dk_at dksX55_rest_3 6 rfl rfl)
theorem dX55_rest_79 : decode cX55_rest 79 = .ok (.lastore, 1) := dk_80 (dk_at dksX55_rest_3 7 rfl rfl)
theorem dX55_rest_80 : decode cX55_rest 80 = .ok (.aload_n 0, 1) := dk_42 (dk_at dksX55_rest_3 8 rfl rfl)
theorem dX55_rest_81 : decode cX55_rest 81 = .ok (.iload 5, 2) := dk_21 5 (dk_at dksX55_rest_3 9 rfl rfl)
theorem dX55_rest_83 : decode cX55_rest 83 = .ok (.aload_n 0, 1) := dk_42 (dk_at dksX55_rest_3 11 rfl rfl)
theorem dX55_rest_84 : decode cX55_rest 84 = .ok (.getfield 119, 3) := dk_180 0 119 (dk_at dksX55_rest_3 12 rfl rfl)
theorem dX55_rest_87 : decode cX55_rest 87 = .ok (.if_icmp .ne 12, 3) := dk_160 0 12 (dk_at dksX55_rest_3 15 rfl rfl)
theorem dX55_rest_90 : decode cX55_rest 90 = .ok (.aload_n 0, 1) := dk_42 (dk_at dksX55_rest_3 18 rfl rfl)
theorem dX55_rest_91 : decode cX55_rest 91 = .ok (.getfield 119, 3) := dk_180 0 119 (dk_at dksX55_rest_3 19 rfl rfl)
theorem dX55_rest_94 : decode cX55_rest 94 = .ok (.iconst 1, 1) := dk_4 (dk_at dksX55_rest_3 22 rfl rfl)
theorem dX55_rest_95 : decode cX55_rest 95 = .ok (.iadd, 1) := dk_96 (dk_at dksX55_rest_3 23 rfl rfl)
theorem dX55_rest_96 : decode cX55_rest 96 = .ok (.goto 7, 3) := dk_167 0 7 (dk_at dksX55_rest_4 0 rfl rfl)
theorem dX55_rest_99 : decode cX55_rest 99 = .ok (.aload_n 0, 1) := dk_42 (dk_at dksX55_rest_4 3 rfl rfl)
theorem dX55_rest_100 : decode cX55_rest 100 = .ok (.getfield 119, 3) := dk_180 0 119 (dk_at dksX55_rest_4 4 rfl rfl)
theorem dX55_rest_103 : decode cX55_rest 103 = .ok (.putfield 119, 3) := dk_181 0 119 (dk_at dksX55_rest_4 7 rfl rfl)
theorem dX55_rest_106 : decode cX55_rest 106 = .ok (.aload_n 0, 1) := dk_42 (dk_at dksX55_rest_4 10 rfl rfl)
theorem dX55_rest_107 : decode cX55_rest 107 = .ok (.iconst 0, 1) := dk_3 (dk_at dksX55_rest_4 11 rfl rfl)
theorem dX55_rest_108 : decode cX55_rest 108 = .ok (.putfield 100, 3) := dk_181 0 100 (dk_at dksX55_rest_4 12 rfl rfl)
theorem dX55_rest_111 : decode cX55_rest 111 = .ok (.iconst 1, 1) := dk_4 (dk_at dksX55_rest_4 15 rfl rfl)
theorem dX55_rest_112 : decode cX55_rest 112 = .ok (.ireturn, 1) := dk_172 (dk_at dksX55_rest_4 16 rfl rfl)
abbrev cX55_breaks : ByteArray := prog_57_method_15_code
def yX55_breaks : MethodName := ⟨RX55, "breaks", "(I)Z"⟩
def dkwX55_breaks_1 : List UInt8 := [4, 84, 42, 3, 181, 0, 100, 4, 172]
abbrev dktX55_breaks_1 : List UInt8 := dkwX55_breaks_1 ++ []
def dkwX55_breaks_0 : List UInt8 := [42, 27, 182, 0, 104, 153, 0, 12, 42, 180, 0, 23, 27, 51, 153, 0, 5, 3, 172, 42, 180, 0, 23, 27]
abbrev dktX55_breaks_0 : List UInt8 := dkwX55_breaks_0 ++ dktX55_breaks_1
theorem dksX55_breaks_0 : cX55_breaks.data.toList.drop 0 = dktX55_breaks_0 := by decide +kernel
theorem dksX55_breaks_1 : cX55_breaks.data.toList.drop 24 = dktX55_breaks_1 := dk_seg dksX55_breaks_0 24 rfl rfl
theorem dX55_breaks_0 : decode cX55_breaks 0 = .ok (.aload_n 0, 1) := dk_42 (dk_at dksX55_breaks_0 0 rfl rfl)
theorem dX55_breaks_1 : decode cX55_breaks 1 = .ok (.iload_n 1, 1) := dk_27 (dk_at dksX55_breaks_0 1 rfl rfl)
theorem dX55_breaks_2 : decode cX55_breaks 2 = .ok (.invokevirtual 104, 3) := dk_182 0 104 (dk_at dksX55_breaks_0 2 rfl rfl)
theorem dX55_breaks_5 : decode cX55_breaks 5 = .ok (.ifCond .eq 12, 3) := dk_153 0 12 (dk_at dksX55_breaks_0 5 rfl rfl)
theorem dX55_breaks_8 : decode cX55_breaks 8 = .ok (.aload_n 0, 1) := dk_42 (dk_at dksX55_breaks_0 8 rfl rfl)
theorem dX55_breaks_9 : decode cX55_breaks 9 = .ok (.getfield 23, 3) := dk_180 0 23 (dk_at dksX55_breaks_0 9 rfl rfl)
theorem dX55_breaks_12 : decode cX55_breaks 12 = .ok (.iload_n 1, 1) := dk_27 (dk_at dksX55_breaks_0 12 rfl rfl)
theorem dX55_breaks_13 : decode cX55_breaks 13 = .ok (.baload, 1) := dk_51 (dk_at dksX55_breaks_0 13 rfl rfl)
theorem dX55_breaks_14 : decode cX55_breaks 14 = .ok (.ifCond .eq 5, 3) := dk_153 0 5 (dk_at dksX55_breaks_0 14 rfl rfl)
theorem dX55_breaks_17 : decode cX55_breaks 17 = .ok (.iconst 0, 1) := dk_3 (dk_at dksX55_breaks_0 17 rfl rfl)
theorem dX55_breaks_18 : decode cX55_breaks 18 = .ok (.ireturn, 1) := dk_172 (dk_at dksX55_breaks_0 18 rfl rfl)
theorem dX55_breaks_19 : decode cX55_breaks 19 = .ok (.aload_n 0, 1) := dk_42 (dk_at dksX55_breaks_0 19 rfl rfl)
theorem dX55_breaks_20 : decode cX55_breaks 20 = .ok (.getfield 23, 3) := dk_180 0 23 (dk_at dksX55_breaks_0 20 rfl rfl)
theorem dX55_breaks_23 : decode cX55_breaks 23 = .ok (.iload_n 1, 1) := dk_27 (dk_at dksX55_breaks_0 23 rfl rfl)
theorem dX55_breaks_24 : decode cX55_breaks 24 = .ok (.iconst 1, 1) := dk_4 (dk_at dksX55_breaks_1 0 rfl rfl)
theorem dX55_breaks_25 : decode cX55_breaks 25 = .ok (.bastore, 1) := dk_84 (dk_at dksX55_breaks_1 1 rfl rfl)
theorem dX55_breaks_26 : decode cX55_breaks 26 = .ok (.aload_n 0, 1) := dk_42 (dk_at dksX55_breaks_1 2 rfl rfl)
theorem dX55_breaks_27 : decode cX55_breaks 27 = .ok (.iconst 0, 1) := dk_3 (dk_at dksX55_breaks_1 3 rfl rfl)
theorem dX55_breaks_28 : decode cX55_breaks 28 = .ok (.putfield 100, 3) := dk_181 0 100 (dk_at dksX55_breaks_1 4 rfl rfl)
theorem dX55_breaks_31 : decode cX55_breaks 31 = .ok (.iconst 1, 1) := dk_4 (dk_at dksX55_breaks_1 7 rfl rfl)
theorem dX55_breaks_32 : decode cX55_breaks 32 = .ok (.ireturn, 1) := dk_172 (dk_at dksX55_breaks_1 8 rfl rfl)
abbrev cX55_sure : ByteArray := prog_57_method_16_code
def yX55_sure : MethodName := ⟨RX55, "sure", "(IJJ)Z"⟩
def dkwX55_sure_2 : List UInt8 := [180, 0, 42, 27, 22, 4, 136, 79, 42, 3, 181, 0, 100, 4, 172]
abbrev dktX55_sure_2 : List UInt8 := dkwX55_sure_2 ++ []
def dkwX55_sure_1 : List UInt8 := [9, 148, 155, 0, 10, 32, 22, 4, 148, 158, 0, 5, 3, 172, 42, 180, 0, 39, 27, 32, 136, 79, 42]
abbrev dktX55_sure_1 : List UInt8 := dkwX55_sure_1 ++ dktX55_sure_2
def dkwX55_sure_0 : List UInt8 := [27, 184, 0, 111, 153, 0, 32, 22, 4, 10, 148, 155, 0, 25, 22, 4, 20, 0, 122, 148, 157, 0, 16, 32]
abbrev dktX55_sure_0 : List UInt8 := dkwX55_sure_0 ++ dktX55_sure_1
theorem dksX55_sure_0 : cX55_sure.data.toList.drop 0 = dktX55_sure_0 := by decide +kernel
theorem dksX55_sure_1 : cX55_sure.data.toList.drop 24 = dktX55_sure_1 := dk_seg dksX55_sure_0 24 rfl rfl
theorem dksX55_sure_2 : cX55_sure.data.toList.drop 47 = dktX55_sure_2 := dk_seg dksX55_sure_1 23 rfl rfl
theorem dX55_sure_0 : decode cX55_sure 0 = .ok (.iload_n 1, 1) := dk_27 (dk_at dksX55_sure_0 0 rfl rfl)
theorem dX55_sure_1 : decode cX55_sure 1 = .ok (.invokestatic 111, 3) := dk_184 0 111 (dk_at dksX55_sure_0 1 rfl rfl)
theorem dX55_sure_4 : decode cX55_sure 4 = .ok (.ifCond .eq 32, 3) := dk_153 0 32 (dk_at dksX55_sure_0 4 rfl rfl)
theorem dX55_sure_7 : decode cX55_sure 7 = .ok (.lload 4, 2) := dk_22 4 (dk_at dksX55_sure_0 7 rfl rfl)
theorem dX55_sure_9 : decode cX55_sure 9 = .ok (.lconst 1, 1) := dk_10 (dk_at dksX55_sure_0 9 rfl rfl)
theorem dX55_sure_10 : decode cX55_sure 10 = .ok (.lcmp, 1) := dk_148 (dk_at dksX55_sure_0 10 rfl rfl)
theorem dX55_sure_11 : decode cX55_sure 11 = .ok (.ifCond .lt 25, 3) := dk_155 0 25 (dk_at dksX55_sure_0 11 rfl rfl)
theorem dX55_sure_14 : decode cX55_sure 14 = .ok (.lload 4, 2) := dk_22 4 (dk_at dksX55_sure_0 14 rfl rfl)
theorem dX55_sure_16 : decode cX55_sure 16 = .ok (.ldc2_w 122, 3) := dk_20 0 122 (dk_at dksX55_sure_0 16 rfl rfl)
theorem dX55_sure_19 : decode cX55_sure 19 = .ok (.lcmp, 1) := dk_148 (dk_at dksX55_sure_0 19 rfl rfl)
theorem dX55_sure_20 : decode cX55_sure 20 = .ok (.ifCond .gt 16, 3) := dk_157 0 16 (dk_at dksX55_sure_0 20 rfl rfl)
theorem dX55_sure_23 : decode cX55_sure 23 = .ok (.lload_n 2, 1) := dk_32 (dk_at dksX55_sure_0 23 rfl rfl)
theorem dX55_sure_24 : decode cX55_sure 24 = .ok (.lconst 0, 1) := dk_9 (dk_at dksX55_sure_1 0 rfl rfl)
theorem dX55_sure_25 : decode cX55_sure 25 = .ok (.lcmp, 1) := dk_148 (dk_at dksX55_sure_1 1 rfl rfl)
theorem dX55_sure_26 : decode cX55_sure 26 = .ok (.ifCond .lt 10, 3) := dk_155 0 10 (dk_at dksX55_sure_1 2 rfl rfl)
theorem dX55_sure_29 : decode cX55_sure 29 = .ok (.lload_n 2, 1) := dk_32 (dk_at dksX55_sure_1 5 rfl rfl)
theorem dX55_sure_30 : decode cX55_sure 30 = .ok (.lload 4, 2) := dk_22 4 (dk_at dksX55_sure_1 6 rfl rfl)
theorem dX55_sure_32 : decode cX55_sure 32 = .ok (.lcmp, 1) := dk_148 (dk_at dksX55_sure_1 8 rfl rfl)
theorem dX55_sure_33 : decode cX55_sure 33 = .ok (.ifCond .le 5, 3) := dk_158 0 5 (dk_at dksX55_sure_1 9 rfl rfl)
theorem dX55_sure_36 : decode cX55_sure 36 = .ok (.iconst 0, 1) := dk_3 (dk_at dksX55_sure_1 12 rfl rfl)
theorem dX55_sure_37 : decode cX55_sure 37 = .ok (.ireturn, 1) := dk_172 (dk_at dksX55_sure_1 13 rfl rfl)
theorem dX55_sure_38 : decode cX55_sure 38 = .ok (.aload_n 0, 1) := dk_42 (dk_at dksX55_sure_1 14 rfl rfl)
theorem dX55_sure_39 : decode cX55_sure 39 = .ok (.getfield 39, 3) := dk_180 0 39 (dk_at dksX55_sure_1 15 rfl rfl)
theorem dX55_sure_42 : decode cX55_sure 42 = .ok (.iload_n 1, 1) := dk_27 (dk_at dksX55_sure_1 18 rfl rfl)
theorem dX55_sure_43 : decode cX55_sure 43 = .ok (.lload_n 2, 1) := dk_32 (dk_at dksX55_sure_1 19 rfl rfl)
theorem dX55_sure_44 : decode cX55_sure 44 = .ok (.l2i, 1) := dk_136 (dk_at dksX55_sure_1 20 rfl rfl)
theorem dX55_sure_45 : decode cX55_sure 45 = .ok (.iastore, 1) := dk_79 (dk_at dksX55_sure_1 21 rfl rfl)
theorem dX55_sure_46 : decode cX55_sure 46 = .ok (.aload_n 0, 1) := dk_42 (dk_at dksX55_sure_1 22 rfl rfl)
theorem dX55_sure_47 : decode cX55_sure 47 = .ok (.getfield 42, 3) := dk_180 0 42 (dk_at dksX55_sure_2 0 rfl rfl)
theorem dX55_sure_50 : decode cX55_sure 50 = .ok (.iload_n 1, 1) := dk_27 (dk_at dksX55_sure_2 3 rfl rfl)
theorem dX55_sure_51 : decode cX55_sure 51 = .ok (.lload 4, 2) := dk_22 4 (dk_at dksX55_sure_2 4 rfl rfl)
theorem dX55_sure_53 : decode cX55_sure 53 = .ok (.l2i, 1) := dk_136 (dk_at dksX55_sure_2 6 rfl rfl)
theorem dX55_sure_54 : decode cX55_sure 54 = .ok (.iastore, 1) := dk_79 (dk_at dksX55_sure_2 7 rfl rfl)
theorem dX55_sure_55 : decode cX55_sure 55 = .ok (.aload_n 0, 1) := dk_42 (dk_at dksX55_sure_2 8 rfl rfl)
theorem dX55_sure_56 : decode cX55_sure 56 = .ok (.iconst 0, 1) := dk_3 (dk_at dksX55_sure_2 9 rfl rfl)
theorem dX55_sure_57 : decode cX55_sure 57 = .ok (.putfield 100, 3) := dk_181 0 100 (dk_at dksX55_sure_2 10 rfl rfl)
theorem dX55_sure_60 : decode cX55_sure 60 = .ok (.iconst 1, 1) := dk_4 (dk_at dksX55_sure_2 13 rfl rfl)
theorem dX55_sure_61 : decode cX55_sure 61 = .ok (.ireturn, 1) := dk_172 (dk_at dksX55_sure_2 14 rfl rfl)
abbrev cX55_states : ByteArray := prog_57_method_19_code
def yX55_states : MethodName := ⟨RX55, "states", "()J"⟩
def dkwX55_states_5 : List UInt8 := [167, 255, 160, 132, 3, 1, 167, 255, 141, 31, 173]
abbrev dktX55_states_5 : List UInt8 := dkwX55_states_5 ++ []
def dkwX55_states_4 : List UInt8 := [132, 6, 1, 167, 255, 207, 21, 5, 153, 0, 9, 31, 10, 97, 167, 0, 4, 31, 64, 132, 4, 1]
abbrev dktX55_states_4 : List UInt8 := dkwX55_states_4 ++ dktX55_states_5
def dkwX55_states_3 : List UInt8 := [180, 0, 27, 16, 10, 21, 6, 104, 21, 4, 96, 51, 154, 0, 7, 4, 167, 0, 4, 3, 54, 5]
abbrev dktX55_states_3 : List UInt8 := dkwX55_states_3 ++ dktX55_states_4
def dkwX55_states_2 : List UInt8 := [42, 180, 0, 89, 162, 0, 46, 21, 5, 153, 0, 32, 29, 21, 6, 184, 0, 124, 153, 0, 19, 42]
abbrev dktX55_states_2 : List UInt8 := dkwX55_states_2 ++ dktX55_states_3
def dkwX55_states_1 : List UInt8 := [162, 0, 93, 42, 29, 182, 0, 127, 153, 0, 85, 29, 21, 4, 184, 0, 124, 54, 5, 3, 54, 6, 21, 6]
abbrev dktX55_states_1 : List UInt8 := dkwX55_states_1 ++ dktX55_states_2
def dkwX55_states_0 : List UInt8 := [10, 64, 4, 62, 29, 4, 42, 180, 0, 89, 120, 162, 0, 111, 3, 54, 4, 21, 4, 42, 180, 0, 89]
abbrev dktX55_states_0 : List UInt8 := dkwX55_states_0 ++ dktX55_states_1
theorem dksX55_states_0 : cX55_states.data.toList.drop 0 = dktX55_states_0 := by decide +kernel
theorem dksX55_states_1 : cX55_states.data.toList.drop 23 = dktX55_states_1 := dk_seg dksX55_states_0 23 rfl rfl
theorem dksX55_states_2 : cX55_states.data.toList.drop 47 = dktX55_states_2 := dk_seg dksX55_states_1 24 rfl rfl
theorem dksX55_states_3 : cX55_states.data.toList.drop 69 = dktX55_states_3 := dk_seg dksX55_states_2 22 rfl rfl
theorem dksX55_states_4 : cX55_states.data.toList.drop 91 = dktX55_states_4 := dk_seg dksX55_states_3 22 rfl rfl
theorem dksX55_states_5 : cX55_states.data.toList.drop 113 = dktX55_states_5 := dk_seg dksX55_states_4 22 rfl rfl
theorem dX55_states_0 : decode cX55_states 0 = .ok (.lconst 1, 1) := dk_10 (dk_at dksX55_states_0 0 rfl rfl)
theorem dX55_states_1 : decode cX55_states 1 = .ok (.lstore_n 1, 1) := dk_64 (dk_at dksX55_states_0 1 rfl rfl)
theorem dX55_states_2 : decode cX55_states 2 = .ok (.iconst 1, 1) := dk_4 (dk_at dksX55_states_0 2 rfl rfl)
theorem dX55_states_3 : decode cX55_states 3 = .ok (.istore_n 3, 1) := dk_62 (dk_at dksX55_states_0 3 rfl rfl)
theorem dX55_states_4 : decode cX55_states 4 = .ok (.iload_n 3, 1) := dk_29 (dk_at dksX55_states_0 4 rfl rfl)
theorem dX55_states_5 : decode cX55_states 5 = .ok (.iconst 1, 1) := dk_4 (dk_at dksX55_states_0 5 rfl rfl)
theorem dX55_states_6 : decode cX55_states 6 = .ok (.aload_n 0, 1) := dk_42 (dk_at dksX55_states_0 6 rfl rfl)
theorem dX55_states_7 : decode cX55_states 7 = .ok (.getfield 89, 3) := dk_180 0 89 (dk_at dksX55_states_0 7 rfl rfl)
theorem dX55_states_10 : decode cX55_states 10 = .ok (.ishl, 1) := dk_120 (dk_at dksX55_states_0 10 rfl rfl)
theorem dX55_states_11 : decode cX55_states 11 = .ok (.if_icmp .ge 111, 3) := dk_162 0 111 (dk_at dksX55_states_0 11 rfl rfl)
theorem dX55_states_14 : decode cX55_states 14 = .ok (.iconst 0, 1) := dk_3 (dk_at dksX55_states_0 14 rfl rfl)
theorem dX55_states_15 : decode cX55_states 15 = .ok (.istore 4, 2) := dk_54 4 (dk_at dksX55_states_0 15 rfl rfl)
theorem dX55_states_17 : decode cX55_states 17 = .ok (.iload 4, 2) := dk_21 4 (dk_at dksX55_states_0 17 rfl rfl)
theorem dX55_states_19 : decode cX55_states 19 = .ok (.aload_n 0, 1) := dk_42 (dk_at dksX55_states_0 19 rfl rfl)
theorem dX55_states_20 : decode cX55_states 20 = .ok (.getfield 89, 3) := dk_180 0 89 (dk_at dksX55_states_0 20 rfl rfl)
theorem dX55_states_23 : decode cX55_states 23 = .ok (.if_icmp .ge 93, 3) := dk_162 0 93 (dk_at dksX55_states_1 0 rfl rfl)
theorem dX55_states_26 : decode cX55_states 26 = .ok (.aload_n 0, 1) := dk_42 (dk_at dksX55_states_1 3 rfl rfl)
theorem dX55_states_27 : decode cX55_states 27 = .ok (.iload_n 3, 1) := dk_29 (dk_at dksX55_states_1 4 rfl rfl)
theorem dX55_states_28 : decode cX55_states 28 = .ok (.invokevirtual 127, 3) := dk_182 0 127 (dk_at dksX55_states_1 5 rfl rfl)
theorem dX55_states_31 : decode cX55_states 31 = .ok (.ifCond .eq 85, 3) := dk_153 0 85 (dk_at dksX55_states_1 8 rfl rfl)
theorem dX55_states_34 : decode cX55_states 34 = .ok (.iload_n 3, 1) := dk_29 (dk_at dksX55_states_1 11 rfl rfl)
theorem dX55_states_35 : decode cX55_states 35 = .ok (.iload 4, 2) := dk_21 4 (dk_at dksX55_states_1 12 rfl rfl)
theorem dX55_states_37 : decode cX55_states 37 = .ok (.invokestatic 124, 3) := dk_184 0 124 (dk_at dksX55_states_1 14 rfl rfl)
theorem dX55_states_40 : decode cX55_states 40 = .ok (.istore 5, 2) := dk_54 5 (dk_at dksX55_states_1 17 rfl rfl)
theorem dX55_states_42 : decode cX55_states 42 = .ok (.iconst 0, 1) := dk_3 (dk_at dksX55_states_1 19 rfl rfl)
theorem dX55_states_43 : decode cX55_states 43 = .ok (.istore 6, 2) := dk_54 6 (dk_at dksX55_states_1 20 rfl rfl)
theorem dX55_states_45 : decode cX55_states 45 = .ok (.iload 6, 2) := dk_21 6 (dk_at dksX55_states_1 22 rfl rfl)
theorem dX55_states_47 : decode cX55_states 47 = .ok (.aload_n 0, 1) := dk_42 (dk_at dksX55_states_2 0 rfl rfl)
theorem dX55_states_48 : decode cX55_states 48 = .ok (.getfield 89, 3) := dk_180 0 89 (dk_at dksX55_states_2 1 rfl rfl)
theorem dX55_states_51 : decode cX55_states 51 = .ok (.if_icmp .ge 46, 3) := dk_162 0 46 (dk_at dksX55_states_2 4 rfl rfl)
theorem dX55_states_54 : decode cX55_states 54 = .ok (.iload 5, 2) := dk_21 5 (dk_at dksX55_states_2 7 rfl rfl)
theorem dX55_states_56 : decode cX55_states 56 = .ok (.ifCond .eq 32, 3) := dk_153 0 32 (dk_at dksX55_states_2 9 rfl rfl)
theorem dX55_states_59 : decode cX55_states 59 = .ok (.iload_n 3, 1) := dk_29 (dk_at dksX55_states_2 12 rfl rfl)
theorem dX55_states_60 : decode cX55_states 60 = .ok (.iload 6, 2) := dk_21 6 (dk_at dksX55_states_2 13 rfl rfl)
theorem dX55_states_62 : decode cX55_states 62 = .ok (.invokestatic 124, 3) := dk_184 0 124 (dk_at dksX55_states_2 15 rfl rfl)
theorem dX55_states_65 : decode cX55_states 65 = .ok (.ifCond .eq 19, 3) := dk_153 0 19 (dk_at dksX55_states_2 18 rfl rfl)
theorem dX55_states_68 : decode cX55_states 68 = .ok (.aload_n 0, 1) := dk_42 (dk_at dksX55_states_2 21 rfl rfl)
theorem dX55_states_69 : decode cX55_states 69 = .ok (.getfield 27, 3) := dk_180 0 27 (dk_at dksX55_states_3 0 rfl rfl)
theorem dX55_states_72 : decode cX55_states 72 = .ok (.bipush 10, 2) := dk_16 10 (dk_at dksX55_states_3 3 rfl rfl)
theorem dX55_states_74 : decode cX55_states 74 = .ok (.iload 6, 2) := dk_21 6 (dk_at dksX55_states_3 5 rfl rfl)
theorem dX55_states_76 : decode cX55_states 76 = .ok (.imul, 1) := dk_104 (dk_at dksX55_states_3 7 rfl rfl)
theorem dX55_states_77 : decode cX55_states 77 = .ok (.iload 4, 2) := dk_21 4 (dk_at dksX55_states_3 8 rfl rfl)
theorem dX55_states_79 : decode cX55_states 79 = .ok (.iadd, 1) := dk_96 (dk_at dksX55_states_3 10 rfl rfl)
theorem dX55_states_80 : decode cX55_states 80 = .ok (.baload, 1) := dk_51 (dk_at dksX55_states_3 11 rfl rfl)
theorem dX55_states_81 : decode cX55_states 81 = .ok (.ifCond .ne 7, 3) := dk_154 0 7 (dk_at dksX55_states_3 12 rfl rfl)
theorem dX55_states_84 : decode cX55_states 84 = .ok (.iconst 1, 1) := dk_4 (dk_at dksX55_states_3 15 rfl rfl)
theorem dX55_states_85 : decode cX55_states 85 = .ok (.goto 4, 3) := dk_167 0 4 (dk_at dksX55_states_3 16 rfl rfl)
theorem dX55_states_88 : decode cX55_states 88 = .ok (.iconst 0, 1) := dk_3 (dk_at dksX55_states_3 19 rfl rfl)
theorem dX55_states_89 : decode cX55_states 89 = .ok (.istore 5, 2) := dk_54 5 (dk_at dksX55_states_3 20 rfl rfl)
theorem dX55_states_91 : decode cX55_states 91 = .ok (.iinc 6 1, 3) := dk_132 6 1 (dk_at dksX55_states_4 0 rfl rfl)
theorem dX55_states_94 : decode cX55_states 94 = .ok (.goto (-49), 3) := dk_167 255 207 (dk_at dksX55_states_4 3 rfl rfl)
theorem dX55_states_97 : decode cX55_states 97 = .ok (.iload 5, 2) := dk_21 5 (dk_at dksX55_states_4 6 rfl rfl)
theorem dX55_states_99 : decode cX55_states 99 = .ok (.ifCond .eq 9, 3) := dk_153 0 9 (dk_at dksX55_states_4 8 rfl rfl)
theorem dX55_states_102 : decode cX55_states 102 = .ok (.lload_n 1, 1) := dk_31 (dk_at dksX55_states_4 11 rfl rfl)
theorem dX55_states_103 : decode cX55_states 103 = .ok (.lconst 1, 1) := dk_10 (dk_at dksX55_states_4 12 rfl rfl)
theorem dX55_states_104 : decode cX55_states 104 = .ok (.ladd, 1) := dk_97 (dk_at dksX55_states_4 13 rfl rfl)
theorem dX55_states_105 : decode cX55_states 105 = .ok (.goto 4, 3) := dk_167 0 4 (dk_at dksX55_states_4 14 rfl rfl)
theorem dX55_states_108 : decode cX55_states 108 = .ok (.lload_n 1, 1) := dk_31 (dk_at dksX55_states_4 17 rfl rfl)
theorem dX55_states_109 : decode cX55_states 109 = .ok (.lstore_n 1, 1) := dk_64 (dk_at dksX55_states_4 18 rfl rfl)
theorem dX55_states_110 : decode cX55_states 110 = .ok (.iinc 4 1, 3) := dk_132 4 1 (dk_at dksX55_states_4 19 rfl rfl)
theorem dX55_states_113 : decode cX55_states 113 = .ok (.goto (-96), 3) := dk_167 255 160 (dk_at dksX55_states_5 0 rfl rfl)
theorem dX55_states_116 : decode cX55_states 116 = .ok (.iinc 3 1, 3) := dk_132 3 1 (dk_at dksX55_states_5 3 rfl rfl)
theorem dX55_states_119 : decode cX55_states 119 = .ok (.goto (-115), 3) := dk_167 255 141 (dk_at dksX55_states_5 6 rfl rfl)
theorem dX55_states_122 : decode cX55_states 122 = .ok (.lload_n 1, 1) := dk_31 (dk_at dksX55_states_5 9 rfl rfl)
theorem dX55_states_123 : decode cX55_states 123 = .ok (.lreturn, 1) := dk_173 (dk_at dksX55_states_5 10 rfl rfl)
abbrev cX55_isClosed : ByteArray := prog_57_method_18_code
def yX55_isClosed : MethodName := ⟨RX55, "isClosed", "(I)Z"⟩
def dkwX55_isClosed_3 : List UInt8 := [132, 3, 1, 167, 255, 185, 28, 172]
abbrev dktX55_isClosed_3 : List UInt8 := dkwX55_isClosed_3 ++ []
def dkwX55_isClosed_2 : List UInt8 := [153, 0, 12, 27, 21, 4, 184, 0, 124, 153, 0, 7, 4, 167, 0, 4, 3, 61, 132, 4, 1, 167, 255, 202]
abbrev dktX55_isClosed_2 : List UInt8 := dkwX55_isClosed_2 ++ dktX55_isClosed_3
def dkwX55_isClosed_1 : List UInt8 := [28, 153, 0, 39, 27, 29, 184, 0, 124, 153, 0, 27, 42, 180, 0, 27, 16, 10, 29, 104, 21, 4, 96, 51]
abbrev dktX55_isClosed_1 : List UInt8 := dkwX55_isClosed_1 ++ dktX55_isClosed_2
def dkwX55_isClosed_0 : List UInt8 := [4, 61, 3, 62, 29, 42, 180, 0, 89, 162, 0, 69, 3, 54, 4, 21, 4, 42, 180, 0, 89, 162, 0, 51]
abbrev dktX55_isClosed_0 : List UInt8 := dkwX55_isClosed_0 ++ dktX55_isClosed_1
theorem dksX55_isClosed_0 : cX55_isClosed.data.toList.drop 0 = dktX55_isClosed_0 := by decide +kernel
theorem dksX55_isClosed_1 : cX55_isClosed.data.toList.drop 24 = dktX55_isClosed_1 := dk_seg dksX55_isClosed_0 24 rfl rfl
theorem dksX55_isClosed_2 : cX55_isClosed.data.toList.drop 48 = dktX55_isClosed_2 := dk_seg dksX55_isClosed_1 24 rfl rfl
theorem dksX55_isClosed_3 : cX55_isClosed.data.toList.drop 72 = dktX55_isClosed_3 := dk_seg dksX55_isClosed_2 24 rfl rfl
theorem dX55_isClosed_0 : decode cX55_isClosed 0 = .ok (.iconst 1, 1) := dk_4 (dk_at dksX55_isClosed_0 0 rfl rfl)
theorem dX55_isClosed_1 : decode cX55_isClosed 1 = .ok (.istore_n 2, 1) := dk_61 (dk_at dksX55_isClosed_0 1 rfl rfl)
theorem dX55_isClosed_2 : decode cX55_isClosed 2 = .ok (.iconst 0, 1) := dk_3 (dk_at dksX55_isClosed_0 2 rfl rfl)
theorem dX55_isClosed_3 : decode cX55_isClosed 3 = .ok (.istore_n 3, 1) := dk_62 (dk_at dksX55_isClosed_0 3 rfl rfl)
theorem dX55_isClosed_4 : decode cX55_isClosed 4 = .ok (.iload_n 3, 1) := dk_29 (dk_at dksX55_isClosed_0 4 rfl rfl)
theorem dX55_isClosed_5 : decode cX55_isClosed 5 = .ok (.aload_n 0, 1) := dk_42 (dk_at dksX55_isClosed_0 5 rfl rfl)
theorem dX55_isClosed_6 : decode cX55_isClosed 6 = .ok (.getfield 89, 3) := dk_180 0 89 (dk_at dksX55_isClosed_0 6 rfl rfl)
theorem dX55_isClosed_9 : decode cX55_isClosed 9 = .ok (.if_icmp .ge 69, 3) := dk_162 0 69 (dk_at dksX55_isClosed_0 9 rfl rfl)
theorem dX55_isClosed_12 : decode cX55_isClosed 12 = .ok (.iconst 0, 1) := dk_3 (dk_at dksX55_isClosed_0 12 rfl rfl)
theorem dX55_isClosed_13 : decode cX55_isClosed 13 = .ok (.istore 4, 2) := dk_54 4 (dk_at dksX55_isClosed_0 13 rfl rfl)
theorem dX55_isClosed_15 : decode cX55_isClosed 15 = .ok (.iload 4, 2) := dk_21 4 (dk_at dksX55_isClosed_0 15 rfl rfl)
theorem dX55_isClosed_17 : decode cX55_isClosed 17 = .ok (.aload_n 0, 1) := dk_42 (dk_at dksX55_isClosed_0 17 rfl rfl)
theorem dX55_isClosed_18 : decode cX55_isClosed 18 = .ok (.getfield 89, 3) := dk_180 0 89 (dk_at dksX55_isClosed_0 18 rfl rfl)
theorem dX55_isClosed_21 : decode cX55_isClosed 21 = .ok (.if_icmp .ge 51, 3) := dk_162 0 51 (dk_at dksX55_isClosed_0 21 rfl rfl)
theorem dX55_isClosed_24 : decode cX55_isClosed 24 = .ok (.iload_n 2, 1) := dk_28 (dk_at dksX55_isClosed_1 0 rfl rfl)
theorem dX55_isClosed_25 : decode cX55_isClosed 25 = .ok (.ifCond .eq 39, 3) := dk_153 0 39 (dk_at dksX55_isClosed_1 1 rfl rfl)
theorem dX55_isClosed_28 : decode cX55_isClosed 28 = .ok (.iload_n 1, 1) := dk_27 (dk_at dksX55_isClosed_1 4 rfl rfl)
theorem dX55_isClosed_29 : decode cX55_isClosed 29 = .ok (.iload_n 3, 1) := dk_29 (dk_at dksX55_isClosed_1 5 rfl rfl)
theorem dX55_isClosed_30 : decode cX55_isClosed 30 = .ok (.invokestatic 124, 3) := dk_184 0 124 (dk_at dksX55_isClosed_1 6 rfl rfl)
theorem dX55_isClosed_33 : decode cX55_isClosed 33 = .ok (.ifCond .eq 27, 3) := dk_153 0 27 (dk_at dksX55_isClosed_1 9 rfl rfl)
theorem dX55_isClosed_36 : decode cX55_isClosed 36 = .ok (.aload_n 0, 1) := dk_42 (dk_at dksX55_isClosed_1 12 rfl rfl)
theorem dX55_isClosed_37 : decode cX55_isClosed 37 = .ok (.getfield 27, 3) := dk_180 0 27 (dk_at dksX55_isClosed_1 13 rfl rfl)
theorem dX55_isClosed_40 : decode cX55_isClosed 40 = .ok (.bipush 10, 2) := dk_16 10 (dk_at dksX55_isClosed_1 16 rfl rfl)
theorem dX55_isClosed_42 : decode cX55_isClosed 42 = .ok (.iload_n 3, 1) := dk_29 (dk_at dksX55_isClosed_1 18 rfl rfl)
theorem dX55_isClosed_43 : decode cX55_isClosed 43 = .ok (.imul, 1) := dk_104 (dk_at dksX55_isClosed_1 19 rfl rfl)
theorem dX55_isClosed_44 : decode cX55_isClosed 44 = .ok (.iload 4, 2) := dk_21 4 (dk_at dksX55_isClosed_1 20 rfl rfl)
theorem dX55_isClosed_46 : decode cX55_isClosed 46 = .ok (.iadd, 1) := dk_96 (dk_at dksX55_isClosed_1 22 rfl rfl)
theorem dX55_isClosed_47 : decode cX55_isClosed 47 = .ok (.baload, 1) := dk_51 (dk_at dksX55_isClosed_1 23 rfl rfl)
theorem dX55_isClosed_48 : decode cX55_isClosed 48 = .ok (.ifCond .eq 12, 3) := dk_153 0 12 (dk_at dksX55_isClosed_2 0 rfl rfl)
theorem dX55_isClosed_51 : decode cX55_isClosed 51 = .ok (.iload_n 1, 1) := dk_27 (dk_at dksX55_isClosed_2 3 rfl rfl)
theorem dX55_isClosed_52 : decode cX55_isClosed 52 = .ok (.iload 4, 2) := dk_21 4 (dk_at dksX55_isClosed_2 4 rfl rfl)
theorem dX55_isClosed_54 : decode cX55_isClosed 54 = .ok (.invokestatic 124, 3) := dk_184 0 124 (dk_at dksX55_isClosed_2 6 rfl rfl)
theorem dX55_isClosed_57 : decode cX55_isClosed 57 = .ok (.ifCond .eq 7, 3) := dk_153 0 7 (dk_at dksX55_isClosed_2 9 rfl rfl)
theorem dX55_isClosed_60 : decode cX55_isClosed 60 = .ok (.iconst 1, 1) := dk_4 (dk_at dksX55_isClosed_2 12 rfl rfl)
theorem dX55_isClosed_61 : decode cX55_isClosed 61 = .ok (.goto 4, 3) := dk_167 0 4 (dk_at dksX55_isClosed_2 13 rfl rfl)
theorem dX55_isClosed_64 : decode cX55_isClosed 64 = .ok (.iconst 0, 1) := dk_3 (dk_at dksX55_isClosed_2 16 rfl rfl)
theorem dX55_isClosed_65 : decode cX55_isClosed 65 = .ok (.istore_n 2, 1) := dk_61 (dk_at dksX55_isClosed_2 17 rfl rfl)
theorem dX55_isClosed_66 : decode cX55_isClosed 66 = .ok (.iinc 4 1, 3) := dk_132 4 1 (dk_at dksX55_isClosed_2 18 rfl rfl)
theorem dX55_isClosed_69 : decode cX55_isClosed 69 = .ok (.goto (-54), 3) := dk_167 255 202 (dk_at dksX55_isClosed_2 21 rfl rfl)
theorem dX55_isClosed_72 : decode cX55_isClosed 72 = .ok (.iinc 3 1, 3) := dk_132 3 1 (dk_at dksX55_isClosed_3 0 rfl rfl)
theorem dX55_isClosed_75 : decode cX55_isClosed 75 = .ok (.goto (-71), 3) := dk_167 255 185 (dk_at dksX55_isClosed_3 3 rfl rfl)
theorem dX55_isClosed_78 : decode cX55_isClosed 78 = .ok (.iload_n 2, 1) := dk_28 (dk_at dksX55_isClosed_3 6 rfl rfl)
theorem dX55_isClosed_79 : decode cX55_isClosed 79 = .ok (.ireturn, 1) := dk_172 (dk_at dksX55_isClosed_3 7 rfl rfl)
abbrev cX55_has : ByteArray := prog_57_method_17_code
def yX55_has : MethodName := ⟨RX55, "has", "(II)Z"⟩
def dkwX55_has_0 : List UInt8 := [26, 27, 122, 4, 126, 4, 160, 0, 7, 4, 167, 0, 4, 3, 172]
abbrev dktX55_has_0 : List UInt8 := dkwX55_has_0 ++ []
theorem dksX55_has_0 : cX55_has.data.toList.drop 0 = dktX55_has_0 := by decide +kernel
theorem dX55_has_0 : decode cX55_has 0 = .ok (.iload_n 0, 1) := dk_26 (dk_at dksX55_has_0 0 rfl rfl)
theorem dX55_has_1 : decode cX55_has 1 = .ok (.iload_n 1, 1) := dk_27 (dk_at dksX55_has_0 1 rfl rfl)
theorem dX55_has_2 : decode cX55_has 2 = .ok (.ishr, 1) := dk_122 (dk_at dksX55_has_0 2 rfl rfl)
theorem dX55_has_3 : decode cX55_has 3 = .ok (.iconst 1, 1) := dk_4 (dk_at dksX55_has_0 3 rfl rfl)
theorem dX55_has_4 : decode cX55_has 4 = .ok (.iand, 1) := dk_126 (dk_at dksX55_has_0 4 rfl rfl)
theorem dX55_has_5 : decode cX55_has 5 = .ok (.iconst 1, 1) := dk_4 (dk_at dksX55_has_0 5 rfl rfl)
theorem dX55_has_6 : decode cX55_has 6 = .ok (.if_icmp .ne 7, 3) := dk_160 0 7 (dk_at dksX55_has_0 6 rfl rfl)
theorem dX55_has_9 : decode cX55_has 9 = .ok (.iconst 1, 1) := dk_4 (dk_at dksX55_has_0 9 rfl rfl)
theorem dX55_has_10 : decode cX55_has 10 = .ok (.goto 4, 3) := dk_167 0 4 (dk_at dksX55_has_0 10 rfl rfl)
theorem dX55_has_13 : decode cX55_has 13 = .ok (.iconst 0, 1) := dk_3 (dk_at dksX55_has_0 13 rfl rfl)
theorem dX55_has_14 : decode cX55_has 14 = .ok (.ireturn, 1) := dk_172 (dk_at dksX55_has_0 14 rfl rfl)
abbrev cX55_run : ByteArray := prog_57_method_28_code
def yX55_run : MethodName := ⟨RX55, "run", "(J)I"⟩
def dkwX55_run_8 : List UInt8 := [182, 0, 139, 181, 0, 174, 42, 42, 180, 0, 89, 181, 0, 177, 42, 4, 181, 0, 100, 42, 180, 0, 54, 172]
abbrev dktX55_run_8 : List UInt8 := dkwX55_run_8 ++ []
def dkwX55_run_7 : List UInt8 := [180, 0, 58, 21, 7, 42, 21, 7, 29, 182, 0, 135, 80, 132, 7, 1, 167, 255, 232, 42, 42, 29]
abbrev dktX55_run_7 : List UInt8 := dkwX55_run_7 ++ dktX55_run_8
def dkwX55_run_6 : List UInt8 := [42, 89, 180, 0, 54, 4, 96, 181, 0, 54, 167, 255, 144, 3, 54, 7, 21, 7, 16, 12, 162, 0, 23, 42]
abbrev dktX55_run_6 : List UInt8 := dkwX55_run_6 ++ dktX55_run_7
def dkwX55_run_5 : List UInt8 := [55, 5, 29, 4, 21, 7, 120, 128, 62, 21, 7, 54, 4, 42, 180, 0, 51, 42, 180, 0, 54, 21, 7, 79]
abbrev dktX55_run_5 : List UInt8 := dkwX55_run_5 ++ dktX55_run_6
def dkwX55_run_4 : List UInt8 := [180, 0, 170, 148, 153, 0, 9, 132, 7, 1, 167, 255, 212, 22, 5, 42, 21, 4, 21, 7, 182, 0, 152, 97]
abbrev dktX55_run_4 : List UInt8 := dkwX55_run_4 ++ dktX55_run_5
def dkwX55_run_3 : List UInt8 := [4, 21, 7, 120, 128, 21, 7, 22, 5, 42, 21, 4, 21, 7, 182, 0, 152, 97, 182, 0, 166, 42]
abbrev dktX55_run_3 : List UInt8 := dkwX55_run_3 ++ dktX55_run_4
def dkwX55_run_2 : List UInt8 := [101, 42, 180, 0, 170, 148, 153, 0, 101, 3, 54, 7, 42, 29, 21, 7, 182, 0, 149, 153, 0, 34, 42, 29]
abbrev dktX55_run_2 : List UInt8 := dkwX55_run_2 ++ dktX55_run_3
def dkwX55_run_1 : List UInt8 := [181, 0, 170, 42, 3, 181, 0, 54, 3, 62, 2, 54, 4, 9, 55, 5, 42, 180, 0, 73, 29, 47, 22, 5]
abbrev dktX55_run_1 : List UInt8 := dkwX55_run_1 ++ dktX55_run_2
def dkwX55_run_0 : List UInt8 := [42, 182, 0, 159, 31, 148, 158, 0, 5, 2, 172, 42, 182, 0, 163, 42, 42, 3, 2, 9, 182, 0, 166]
abbrev dktX55_run_0 : List UInt8 := dkwX55_run_0 ++ dktX55_run_1
theorem dksX55_run_0 : cX55_run.data.toList.drop 0 = dktX55_run_0 := by decide +kernel
theorem dksX55_run_1 : cX55_run.data.toList.drop 23 = dktX55_run_1 := dk_seg dksX55_run_0 23 rfl rfl
theorem dksX55_run_2 : cX55_run.data.toList.drop 47 = dktX55_run_2 := dk_seg dksX55_run_1 24 rfl rfl
theorem dksX55_run_3 : cX55_run.data.toList.drop 71 = dktX55_run_3 := dk_seg dksX55_run_2 24 rfl rfl
theorem dksX55_run_4 : cX55_run.data.toList.drop 93 = dktX55_run_4 := dk_seg dksX55_run_3 22 rfl rfl
theorem dksX55_run_5 : cX55_run.data.toList.drop 117 = dktX55_run_5 := dk_seg dksX55_run_4 24 rfl rfl
theorem dksX55_run_6 : cX55_run.data.toList.drop 141 = dktX55_run_6 := dk_seg dksX55_run_5 24 rfl rfl
theorem dksX55_run_7 : cX55_run.data.toList.drop 165 = dktX55_run_7 := dk_seg dksX55_run_6 24 rfl rfl
theorem dksX55_run_8 : cX55_run.data.toList.drop 187 = dktX55_run_8 := dk_seg dksX55_run_7 22 rfl rfl
theorem dX55_run_0 : decode cX55_run 0 = .ok (.aload_n 0, 1) := dk_42 (dk_at dksX55_run_0 0 rfl rfl)
theorem dX55_run_1 : decode cX55_run 1 = .ok (.invokevirtual 159, 3) := dk_182 0 159 (dk_at dksX55_run_0 1 rfl rfl)
theorem dX55_run_4 : decode cX55_run 4 = .ok (.lload_n 1, 1) := dk_31 (dk_at dksX55_run_0 4 rfl rfl)
theorem dX55_run_5 : decode cX55_run 5 = .ok (.lcmp, 1) := dk_148 (dk_at dksX55_run_0 5 rfl rfl)
theorem dX55_run_6 : decode cX55_run 6 = .ok (.ifCond .le 5, 3) := dk_158 0 5 (dk_at dksX55_run_0 6 rfl rfl)
theorem dX55_run_9 : decode cX55_run 9 = .ok (.iconst (-1), 1) := dk_2 (dk_at dksX55_run_0 9 rfl rfl)
theorem dX55_run_10 : decode cX55_run 10 = .ok (.ireturn, 1) := dk_172 (dk_at dksX55_run_0 10 rfl rfl)
theorem dX55_run_11 : decode cX55_run 11 = .ok (.aload_n 0, 1) := dk_42 (dk_at dksX55_run_0 11 rfl rfl)
theorem dX55_run_12 : decode cX55_run 12 = .ok (.invokevirtual 163, 3) := dk_182 0 163 (dk_at dksX55_run_0 12 rfl rfl)
theorem dX55_run_15 : decode cX55_run 15 = .ok (.aload_n 0, 1) := dk_42 (dk_at dksX55_run_0 15 rfl rfl)
theorem dX55_run_16 : decode cX55_run 16 = .ok (.aload_n 0, 1) := dk_42 (dk_at dksX55_run_0 16 rfl rfl)
theorem dX55_run_17 : decode cX55_run 17 = .ok (.iconst 0, 1) := dk_3 (dk_at dksX55_run_0 17 rfl rfl)
theorem dX55_run_18 : decode cX55_run 18 = .ok (.iconst (-1), 1) := dk_2 (dk_at dksX55_run_0 18 rfl rfl)
theorem dX55_run_19 : decode cX55_run 19 = .ok (.lconst 0, 1) := dk_9 (dk_at dksX55_run_0 19 rfl rfl)
theorem dX55_run_20 : decode cX55_run 20 = .ok (.invokevirtual 166, 3) := dk_182 0 166 (dk_at dksX55_run_0 20 rfl rfl)
theorem dX55_run_23 : decode cX55_run 23 = .ok (.putfield 170, 3) := dk_181 0 170 (dk_at dksX55_run_1 0 rfl rfl)
theorem dX55_run_26 : decode cX55_run 26 = .ok (.aload_n 0, 1) := dk_42 (dk_at dksX55_run_1 3 rfl rfl)
theorem dX55_run_27 : decode cX55_run 27 = .ok (.iconst 0, 1) := dk_3 (dk_at dksX55_run_1 4 rfl rfl)
theorem dX55_run_28 : decode cX55_run 28 = .ok (.putfield 54, 3) := dk_181 0 54 (dk_at dksX55_run_1 5 rfl rfl)
theorem dX55_run_31 : decode cX55_run 31 = .ok (.iconst 0, 1) := dk_3 (dk_at dksX55_run_1 8 rfl rfl)
theorem dX55_run_32 : decode cX55_run 32 = .ok (.istore_n 3, 1) := dk_62 (dk_at dksX55_run_1 9 rfl rfl)
theorem dX55_run_33 : decode cX55_run 33 = .ok (.iconst (-1), 1) := dk_2 (dk_at dksX55_run_1 10 rfl rfl)
theorem dX55_run_34 : decode cX55_run 34 = .ok (.istore 4, 2) := dk_54 4 (dk_at dksX55_run_1 11 rfl rfl)
theorem dX55_run_36 : decode cX55_run 36 = .ok (.lconst 0, 1) := dk_9 (dk_at dksX55_run_1 13 rfl rfl)
theorem dX55_run_37 : decode cX55_run 37 = .ok (.lstore 5, 2) := dk_55 5 (dk_at dksX55_run_1 14 rfl rfl)
theorem dX55_run_39 : decode cX55_run 39 = .ok (.aload_n 0, 1) := dk_42 (dk_at dksX55_run_1 16 rfl rfl)
theorem dX55_run_40 : decode cX55_run 40 = .ok (.getfield 73, 3) := dk_180 0 73 (dk_at dksX55_run_1 17 rfl rfl)
theorem dX55_run_43 : decode cX55_run 43 = .ok (.iload_n 3, 1) := dk_29 (dk_at dksX55_run_1 20 rfl rfl)
theorem dX55_run_44 : decode cX55_run 44 = .ok (.laload, 1) := dk_47 (dk_at dksX55_run_1 21 rfl rfl)
theorem dX55_run_45 : decode cX55_run 45 = .ok (.lload 5, 2) := dk_22 5 (dk_at dksX55_run_1 22 rfl rfl)
theorem dX55_run_47 : decode cX55_run 47 = .ok (.lsub, 1) := dk_101 (dk_at dksX55_run_2 0 rfl rfl)
theorem dX55_run_48 : decode cX55_run 48 = .ok (.aload_n 0, 1) := dk_42 (dk_at dksX55_run_2 1 rfl rfl)
theorem dX55_run_49 : decode cX55_run 49 = .ok (.getfield 170, 3) := dk_180 0 170 (dk_at dksX55_run_2 2 rfl rfl)
theorem dX55_run_52 : decode cX55_run 52 = .ok (.lcmp, 1) := dk_148 (dk_at dksX55_run_2 5 rfl rfl)
theorem dX55_run_53 : decode cX55_run 53 = .ok (.ifCond .eq 101, 3) := dk_153 0 101 (dk_at dksX55_run_2 6 rfl rfl)
theorem dX55_run_56 : decode cX55_run 56 = .ok (.iconst 0, 1) := dk_3 (dk_at dksX55_run_2 9 rfl rfl)
theorem dX55_run_57 : decode cX55_run 57 = .ok (.istore 7, 2) := dk_54 7 (dk_at dksX55_run_2 10 rfl rfl)
theorem dX55_run_59 : decode cX55_run 59 = .ok (.aload_n 0, 1) := dk_42 (dk_at dksX55_run_2 12 rfl rfl)
theorem dX55_run_60 : decode cX55_run 60 = .ok (.iload_n 3, 1) := dk_29 (dk_at dksX55_run_2 13 rfl rfl)
theorem dX55_run_61 : decode cX55_run 61 = .ok (.iload 7, 2) := dk_21 7 (dk_at dksX55_run_2 14 rfl rfl)
theorem dX55_run_63 : decode cX55_run 63 = .ok (.invokevirtual 149, 3) := dk_182 0 149 (dk_at dksX55_run_2 16 rfl rfl)
theorem dX55_run_66 : decode cX55_run 66 = .ok (.ifCond .eq 34, 3) := dk_153 0 34 (dk_at dksX55_run_2 19 rfl rfl)
theorem dX55_run_69 : decode cX55_run 69 = .ok (.aload_n 0, 1) := dk_42 (dk_at dksX55_run_2 22 rfl rfl)
theorem dX55_run_70 : decode cX55_run 70 = .ok (.iload_n 3, 1) := dk_29 (dk_at dksX55_run_2 23 rfl rfl)
theorem dX55_run_71 : decode cX55_run 71 = .ok (.iconst 1, 1) := dk_4 (dk_at dksX55_run_3 0 rfl rfl)
theorem dX55_run_72 : decode cX55_run 72 = .ok (.iload 7, 2) := dk_21 7 (dk_at dksX55_run_3 1 rfl rfl)
theorem dX55_run_74 : decode cX55_run 74 = .ok (.ishl, 1) := dk_120 (dk_at dksX55_run_3 3 rfl rfl)
theorem dX55_run_75 : decode cX55_run 75 = .ok (.ior, 1) := dk_128 (dk_at dksX55_run_3 4 rfl rfl)
theorem dX55_run_76 : decode cX55_run 76 = .ok (.iload 7, 2) := dk_21 7 (dk_at dksX55_run_3 5 rfl rfl)
theorem dX55_run_78 : decode cX55_run 78 = .ok (.lload 5, 2) := dk_22 5 (dk_at dksX55_run_3 7 rfl rfl)
theorem dX55_run_80 : decode cX55_run 80 = .ok (.aload_n 0, 1) := dk_42 (dk_at dksX55_run_3 9 rfl rfl)
theorem dX55_run_81 : decode cX55_run 81 = .ok (.iload 4, 2) := dk_21 4 (dk_at dksX55_run_3 10 rfl rfl)
theorem dX55_run_83 : decode cX55_run 83 = .ok (.iload 7, 2) := dk_21 7 (dk_at dksX55_run_3 12 rfl rfl)
theorem dX55_run_85 : decode cX55_run 85 = .ok (.invokevirtual 152, 3) := dk_182 0 152 (dk_at dksX55_run_3 14 rfl rfl)
theorem dX55_run_88 : decode cX55_run 88 = .ok (.ladd, 1) := dk_97 (dk_at dksX55_run_3 17 rfl rfl)
theorem dX55_run_89 : decode cX55_run 89 = .ok (.invokevirtual 166, 3) := dk_182 0 166 (dk_at dksX55_run_3 18 rfl rfl)
theorem dX55_run_92 : decode cX55_run 92 = .ok (.aload_n 0, 1) := dk_42 (dk_at dksX55_run_3 21 rfl rfl)
theorem dX55_run_93 : decode cX55_run 93 = .ok (.getfield 170, 3) := dk_180 0 170 (dk_at dksX55_run_4 0 rfl rfl)
theorem dX55_run_96 : decode cX55_run 96 = .ok (.lcmp, 1) := dk_148 (dk_at dksX55_run_4 3 rfl rfl)
theorem dX55_run_97 : decode cX55_run 97 = .ok (.ifCond .eq 9, 3) := dk_153 0 9 (dk_at dksX55_run_4 4 rfl rfl)
theorem dX55_run_100 : decode cX55_run 100 = .ok (.iinc 7 1, 3) := dk_132 7 1 (dk_at dksX55_run_4 7 rfl rfl)
theorem dX55_run_103 : decode cX55_run 103 = .ok (.goto (-44), 3) := dk_167 255 212 (dk_at dksX55_run_4 10 rfl rfl)
theorem dX55_run_106 : decode cX55_run 106 = .ok (.lload 5, 2) := dk_22 5 (dk_at dksX55_run_4 13 rfl rfl)
theorem dX55_run_108 : decode cX55_run 108 = .ok (.aload_n 0, 1) := dk_42 (dk_at dksX55_run_4 15 rfl rfl)
theorem dX55_run_109 : decode cX55_run 109 = .ok (.iload 4, 2) := dk_21 4 (dk_at dksX55_run_4 16 rfl rfl)
theorem dX55_run_111 : decode cX55_run 111 = .ok (.iload 7, 2) := dk_21 7 (dk_at dksX55_run_4 18 rfl rfl)
theorem dX55_run_113 : decode cX55_run 113 = .ok (.invokevirtual 152, 3) := dk_182 0 152 (dk_at dksX55_run_4 20 rfl rfl)
theorem dX55_run_116 : decode cX55_run 116 = .ok (.ladd, 1) := dk_97 (dk_at dksX55_run_4 23 rfl rfl)
theorem dX55_run_117 : decode cX55_run 117 = .ok (.lstore 5, 2) := dk_55 5 (dk_at dksX55_run_5 0 rfl rfl)
theorem dX55_run_119 : decode cX55_run 119 = .ok (.iload_n 3, 1) := dk_29 (dk_at dksX55_run_5 2 rfl rfl)
theorem dX55_run_120 : decode cX55_run 120 = .ok (.iconst 1, 1) := dk_4 (dk_at dksX55_run_5 3 rfl rfl)
theorem dX55_run_121 : decode cX55_run 121 = .ok (.iload 7, 2) := dk_21 7 (dk_at dksX55_run_5 4 rfl rfl)
theorem dX55_run_123 : decode cX55_run 123 = .ok (.ishl, 1) := dk_120 (dk_at dksX55_run_5 6 rfl rfl)
theorem dX55_run_124 : decode cX55_run 124 = .ok (.ior, 1) := dk_128 (dk_at dksX55_run_5 7 rfl rfl)
theorem dX55_run_125 : decode cX55_run 125 = .ok (.istore_n 3, 1) := dk_62 (dk_at dksX55_run_5 8 rfl rfl)
theorem dX55_run_126 : decode cX55_run 126 = .ok (.iload 7, 2) := dk_21 7 (dk_at dksX55_run_5 9 rfl rfl)
theorem dX55_run_128 : decode cX55_run 128 = .ok (.istore 4, 2) := dk_54 4 (dk_at dksX55_run_5 11 rfl rfl)
theorem dX55_run_130 : decode cX55_run 130 = .ok (.aload_n 0, 1) := dk_42 (dk_at dksX55_run_5 13 rfl rfl)
theorem dX55_run_131 : decode cX55_run 131 = .ok (.getfield 51, 3) := dk_180 0 51 (dk_at dksX55_run_5 14 rfl rfl)
theorem dX55_run_134 : decode cX55_run 134 = .ok (.aload_n 0, 1) := dk_42 (dk_at dksX55_run_5 17 rfl rfl)
theorem dX55_run_135 : decode cX55_run 135 = .ok (.getfield 54, 3) := dk_180 0 54 (dk_at dksX55_run_5 18 rfl rfl)
theorem dX55_run_138 : decode cX55_run 138 = .ok (.iload 7, 2) := dk_21 7 (dk_at dksX55_run_5 21 rfl rfl)
theorem dX55_run_140 : decode cX55_run 140 = .ok (.iastore, 1) := dk_79 (dk_at dksX55_run_5 23 rfl rfl)
theorem dX55_run_141 : decode cX55_run 141 = .ok (.aload_n 0, 1) := dk_42 (dk_at dksX55_run_6 0 rfl rfl)
theorem dX55_run_142 : decode cX55_run 142 = .ok (.dup, 1) := dk_89 (dk_at dksX55_run_6 1 rfl rfl)
theorem dX55_run_143 : decode cX55_run 143 = .ok (.getfield 54, 3) := dk_180 0 54 (dk_at dksX55_run_6 2 rfl rfl)
theorem dX55_run_146 : decode cX55_run 146 = .ok (.iconst 1, 1) := dk_4 (dk_at dksX55_run_6 5 rfl rfl)
theorem dX55_run_147 : decode cX55_run 147 = .ok (.iadd, 1) := dk_96 (dk_at dksX55_run_6 6 rfl rfl)
theorem dX55_run_148 : decode cX55_run 148 = .ok (.putfield 54, 3) := dk_181 0 54 (dk_at dksX55_run_6 7 rfl rfl)
theorem dX55_run_151 : decode cX55_run 151 = .ok (.goto (-112), 3) := dk_167 255 144 (dk_at dksX55_run_6 10 rfl rfl)
theorem dX55_run_154 : decode cX55_run 154 = .ok (.iconst 0, 1) := dk_3 (dk_at dksX55_run_6 13 rfl rfl)
theorem dX55_run_155 : decode cX55_run 155 = .ok (.istore 7, 2) := dk_54 7 (dk_at dksX55_run_6 14 rfl rfl)
theorem dX55_run_157 : decode cX55_run 157 = .ok (.iload 7, 2) := dk_21 7 (dk_at dksX55_run_6 16 rfl rfl)
theorem dX55_run_159 : decode cX55_run 159 = .ok (.bipush 12, 2) := dk_16 12 (dk_at dksX55_run_6 18 rfl rfl)
theorem dX55_run_161 : decode cX55_run 161 = .ok (.if_icmp .ge 23, 3) := dk_162 0 23 (dk_at dksX55_run_6 20 rfl rfl)
theorem dX55_run_164 : decode cX55_run 164 = .ok (.aload_n 0, 1) := dk_42 (dk_at dksX55_run_6 23 rfl rfl)
theorem dX55_run_165 : decode cX55_run 165 = .ok (.getfield 58, 3) := dk_180 0 58 (dk_at dksX55_run_7 0 rfl rfl)
theorem dX55_run_168 : decode cX55_run 168 = .ok (.iload 7, 2) := dk_21 7 (dk_at dksX55_run_7 3 rfl rfl)
theorem dX55_run_170 : decode cX55_run 170 = .ok (.aload_n 0, 1) := dk_42 (dk_at dksX55_run_7 5 rfl rfl)
theorem dX55_run_171 : decode cX55_run 171 = .ok (.iload 7, 2) := dk_21 7 (dk_at dksX55_run_7 6 rfl rfl)
theorem dX55_run_173 : decode cX55_run 173 = .ok (.iload_n 3, 1) := dk_29 (dk_at dksX55_run_7 8 rfl rfl)
theorem dX55_run_174 : decode cX55_run 174 = .ok (.invokevirtual 135, 3) := dk_182 0 135 (dk_at dksX55_run_7 9 rfl rfl)
theorem dX55_run_177 : decode cX55_run 177 = .ok (.lastore, 1) := dk_80 (dk_at dksX55_run_7 12 rfl rfl)
theorem dX55_run_178 : decode cX55_run 178 = .ok (.iinc 7 1, 3) := dk_132 7 1 (dk_at dksX55_run_7 13 rfl rfl)
theorem dX55_run_181 : decode cX55_run 181 = .ok (.goto (-24), 3) := dk_167 255 232 (dk_at dksX55_run_7 16 rfl rfl)
theorem dX55_run_184 : decode cX55_run 184 = .ok (.aload_n 0, 1) := dk_42 (dk_at dksX55_run_7 19 rfl rfl)
theorem dX55_run_185 : decode cX55_run 185 = .ok (.aload_n 0, 1) := dk_42 (dk_at dksX55_run_7 20 rfl rfl)
theorem dX55_run_186 : decode cX55_run 186 = .ok (.iload_n 3, 1) := dk_29 (dk_at dksX55_run_7 21 rfl rfl)
theorem dX55_run_187 : decode cX55_run 187 = .ok (.invokevirtual 139, 3) := dk_182 0 139 (dk_at dksX55_run_8 0 rfl rfl)
theorem dX55_run_190 : decode cX55_run 190 = .ok (.putfield 174, 3) := dk_181 0 174 (dk_at dksX55_run_8 3 rfl rfl)
theorem dX55_run_193 : decode cX55_run 193 = .ok (.aload_n 0, 1) := dk_42 (dk_at dksX55_run_8 6 rfl rfl)
theorem dX55_run_194 : decode cX55_run 194 = .ok (.aload_n 0, 1) := dk_42 (dk_at dksX55_run_8 7 rfl rfl)
theorem dX55_run_195 : decode cX55_run 195 = .ok (.getfield 89, 3) := dk_180 0 89 (dk_at dksX55_run_8 8 rfl rfl)
theorem dX55_run_198 : decode cX55_run 198 = .ok (.putfield 177, 3) := dk_181 0 177 (dk_at dksX55_run_8 11 rfl rfl)
theorem dX55_run_201 : decode cX55_run 201 = .ok (.aload_n 0, 1) := dk_42 (dk_at dksX55_run_8 14 rfl rfl)
theorem dX55_run_202 : decode cX55_run 202 = .ok (.iconst 1, 1) := dk_4 (dk_at dksX55_run_8 15 rfl rfl)
theorem dX55_run_203 : decode cX55_run 203 = .ok (.putfield 100, 3) := dk_181 0 100 (dk_at dksX55_run_8 16 rfl rfl)
theorem dX55_run_206 : decode cX55_run 206 = .ok (.aload_n 0, 1) := dk_42 (dk_at dksX55_run_8 19 rfl rfl)
theorem dX55_run_207 : decode cX55_run 207 = .ok (.getfield 54, 3) := dk_180 0 54 (dk_at dksX55_run_8 20 rfl rfl)
theorem dX55_run_210 : decode cX55_run 210 = .ok (.ireturn, 1) := dk_172 (dk_at dksX55_run_8 23 rfl rfl)
abbrev cX55_reckonValues : ByteArray := prog_57_method_25_code
def yX55_reckonValues : MethodName := ⟨RX55, "reckonValues", "()V"⟩
def dkwX55_reckonValues_4 : List UInt8 := [180, 0, 73, 27, 42, 27, 182, 0, 143, 80, 132, 1, 1, 167, 255, 232, 177]
abbrev dktX55_reckonValues_4 : List UInt8 := dkwX55_reckonValues_4 ++ []
def dkwX55_reckonValues_3 : List UInt8 := [167, 255, 206, 132, 1, 1, 167, 255, 183, 3, 60, 27, 4, 42, 180, 0, 89, 120, 162, 0, 20, 42]
abbrev dktX55_reckonValues_3 : List UInt8 := dkwX55_reckonValues_3 ++ dktX55_reckonValues_4
def dkwX55_reckonValues_2 : List UInt8 := [180, 0, 67, 27, 46, 4, 28, 120, 128, 167, 0, 9, 42, 180, 0, 67, 27, 46, 79, 132, 2, 1]
abbrev dktX55_reckonValues_2 : List UInt8 := dkwX55_reckonValues_2 ++ dktX55_reckonValues_3
def dkwX55_reckonValues_1 : List UInt8 := [162, 0, 48, 42, 180, 0, 67, 27, 42, 180, 0, 27, 16, 10, 27, 104, 28, 96, 51, 153, 0, 16, 42]
abbrev dktX55_reckonValues_1 : List UInt8 := dkwX55_reckonValues_1 ++ dktX55_reckonValues_2
def dkwX55_reckonValues_0 : List UInt8 := [3, 60, 27, 42, 180, 0, 89, 162, 0, 71, 42, 180, 0, 67, 27, 3, 79, 3, 61, 28, 42, 180, 0, 89]
abbrev dktX55_reckonValues_0 : List UInt8 := dkwX55_reckonValues_0 ++ dktX55_reckonValues_1
theorem dksX55_reckonValues_0 : cX55_reckonValues.data.toList.drop 0 = dktX55_reckonValues_0 := by decide +kernel
theorem dksX55_reckonValues_1 : cX55_reckonValues.data.toList.drop 24 = dktX55_reckonValues_1 := dk_seg dksX55_reckonValues_0 24 rfl rfl
theorem dksX55_reckonValues_2 : cX55_reckonValues.data.toList.drop 47 = dktX55_reckonValues_2 := dk_seg dksX55_reckonValues_1 23 rfl rfl
theorem dksX55_reckonValues_3 : cX55_reckonValues.data.toList.drop 69 = dktX55_reckonValues_3 := dk_seg dksX55_reckonValues_2 22 rfl rfl
theorem dksX55_reckonValues_4 : cX55_reckonValues.data.toList.drop 91 = dktX55_reckonValues_4 := dk_seg dksX55_reckonValues_3 22 rfl rfl
theorem dX55_reckonValues_0 : decode cX55_reckonValues 0 = .ok (.iconst 0, 1) := dk_3 (dk_at dksX55_reckonValues_0 0 rfl rfl)
theorem dX55_reckonValues_1 : decode cX55_reckonValues 1 = .ok (.istore_n 1, 1) := dk_60 (dk_at dksX55_reckonValues_0 1 rfl rfl)
theorem dX55_reckonValues_2 : decode cX55_reckonValues 2 = .ok (.iload_n 1, 1) := dk_27 (dk_at dksX55_reckonValues_0 2 rfl rfl)
theorem dX55_reckonValues_3 : decode cX55_reckonValues 3 = .ok (.aload_n 0, 1) := dk_42 (dk_at dksX55_reckonValues_0 3 rfl rfl)
theorem dX55_reckonValues_4 : decode cX55_reckonValues 4 = .ok (.getfield 89, 3) := dk_180 0 89 (dk_at dksX55_reckonValues_0 4 rfl rfl)
theorem dX55_reckonValues_7 : decode cX55_reckonValues 7 = .ok (.if_icmp .ge 71, 3) := dk_162 0 71 (dk_at dksX55_reckonValues_0 7 rfl rfl)
theorem dX55_reckonValues_10 : decode cX55_reckonValues 10 = .ok (.aload_n 0, 1) := dk_42 (dk_at dksX55_reckonValues_0 10 rfl rfl)
theorem dX55_reckonValues_11 : decode cX55_reckonValues 11 = .ok (.getfield 67, 3) := dk_180 0 67 (dk_at dksX55_reckonValues_0 11 rfl rfl)
theorem dX55_reckonValues_14 : decode cX55_reckonValues 14 = .ok (.iload_n 1, 1) := dk_27 (dk_at dksX55_reckonValues_0 14 rfl rfl)
theorem dX55_reckonValues_15 : decode cX55_reckonValues 15 = .ok (.iconst 0, 1) := dk_3 (dk_at dksX55_reckonValues_0 15 rfl rfl)
theorem dX55_reckonValues_16 : decode cX55_reckonValues 16 = .ok (.iastore, 1) := dk_79 (dk_at dksX55_reckonValues_0 16 rfl rfl)
theorem dX55_reckonValues_17 : decode cX55_reckonValues 17 = .ok (.iconst 0, 1) := dk_3 (dk_at dksX55_reckonValues_0 17 rfl rfl)
theorem dX55_reckonValues_18 : decode cX55_reckonValues 18 = .ok (.istore_n 2, 1) := dk_61 (dk_at dksX55_reckonValues_0 18 rfl rfl)
theorem dX55_reckonValues_19 : decode cX55_reckonValues 19 = .ok (.iload_n 2, 1) := dk_28 (dk_at dksX55_reckonValues_0 19 rfl rfl)
theorem dX55_reckonValues_20 : decode cX55_reckonValues 20 = .ok (.aload_n 0, 1) := dk_42 (dk_at dksX55_reckonValues_0 20 rfl rfl)
theorem dX55_reckonValues_21 : decode cX55_reckonValues 21 = .ok (.getfield 89, 3) := dk_180 0 89 (dk_at dksX55_reckonValues_0 21 rfl rfl)
theorem dX55_reckonValues_24 : decode cX55_reckonValues 24 = .ok (.if_icmp .ge 48, 3) := dk_162 0 48 (dk_at dksX55_reckonValues_1 0 rfl rfl)
theorem dX55_reckonValues_27 : decode cX55_reckonValues 27 = .ok (.aload_n 0, 1) := dk_42 (dk_at dksX55_reckonValues_1 3 rfl rfl)
theorem dX55_reckonValues_28 : decode cX55_reckonValues 28 = .ok (.getfield 67, 3) := dk_180 0 67 (dk_at dksX55_reckonValues_1 4 rfl rfl)
theorem dX55_reckonValues_31 : decode cX55_reckonValues 31 = .ok (.iload_n 1, 1) := dk_27 (dk_at dksX55_reckonValues_1 7 rfl rfl)
theorem dX55_reckonValues_32 : decode cX55_reckonValues 32 = .ok (.aload_n 0, 1) := dk_42 (dk_at dksX55_reckonValues_1 8 rfl rfl)
theorem dX55_reckonValues_33 : decode cX55_reckonValues 33 = .ok (.getfield 27, 3) := dk_180 0 27 (dk_at dksX55_reckonValues_1 9 rfl rfl)
theorem dX55_reckonValues_36 : decode cX55_reckonValues 36 = .ok (.bipush 10, 2) := dk_16 10 (dk_at dksX55_reckonValues_1 12 rfl rfl)
theorem dX55_reckonValues_38 : decode cX55_reckonValues 38 = .ok (.iload_n 1, 1) := dk_27 (dk_at dksX55_reckonValues_1 14 rfl rfl)
theorem dX55_reckonValues_39 : decode cX55_reckonValues 39 = .ok (.imul, 1) := dk_104 (dk_at dksX55_reckonValues_1 15 rfl rfl)
theorem dX55_reckonValues_40 : decode cX55_reckonValues 40 = .ok (.iload_n 2, 1) := dk_28 (dk_at dksX55_reckonValues_1 16 rfl rfl)
theorem dX55_reckonValues_41 : decode cX55_reckonValues 41 = .ok (.iadd, 1) := dk_96 (dk_at dksX55_reckonValues_1 17 rfl rfl)
theorem dX55_reckonValues_42 : decode cX55_reckonValues 42 = .ok (.baload, 1) := dk_51 (dk_at dksX55_reckonValues_1 18 rfl rfl)
theorem dX55_reckonValues_43 : decode cX55_reckonValues 43 = .ok (.ifCond .eq 16, 3) := dk_153 0 16 (dk_at dksX55_reckonValues_1 19 rfl rfl)
theorem dX55_reckonValues_46 : decode cX55_reckonValues 46 = .ok (.aload_n 0, 1) := dk_42 (dk_at dksX55_reckonValues_1 22 rfl rfl)
theorem dX55_reckonValues_47 : decode cX55_reckonValues 47 = .ok (.getfield 67, 3) := dk_180 0 67 (dk_at dksX55_reckonValues_2 0 rfl rfl)
theorem dX55_reckonValues_50 : decode cX55_reckonValues 50 = .ok (.iload_n 1, 1) := dk_27 (dk_at dksX55_reckonValues_2 3 rfl rfl)
theorem dX55_reckonValues_51 : decode cX55_reckonValues 51 = .ok (.iaload, 1) := dk_46 (dk_at dksX55_reckonValues_2 4 rfl rfl)
theorem dX55_reckonValues_52 : decode cX55_reckonValues 52 = .ok (.iconst 1, 1) := dk_4 (dk_at dksX55_reckonValues_2 5 rfl rfl)
theorem dX55_reckonValues_53 : decode cX55_reckonValues 53 = .ok (.iload_n 2, 1) := dk_28 (dk_at dksX55_reckonValues_2 6 rfl rfl)
theorem dX55_reckonValues_54 : decode cX55_reckonValues 54 = .ok (.ishl, 1) := dk_120 (dk_at dksX55_reckonValues_2 7 rfl rfl)
theorem dX55_reckonValues_55 : decode cX55_reckonValues 55 = .ok (.ior, 1) := dk_128 (dk_at dksX55_reckonValues_2 8 rfl rfl)
theorem dX55_reckonValues_56 : decode cX55_reckonValues 56 = .ok (.goto 9, 3) := dk_167 0 9 (dk_at dksX55_reckonValues_2 9 rfl rfl)
theorem dX55_reckonValues_59 : decode cX55_reckonValues 59 = .ok (.aload_n 0, 1) := dk_42 (dk_at dksX55_reckonValues_2 12 rfl rfl)
theorem dX55_reckonValues_60 : decode cX55_reckonValues 60 = .ok (.getfield 67, 3) := dk_180 0 67 (dk_at dksX55_reckonValues_2 13 rfl rfl)
theorem dX55_reckonValues_63 : decode cX55_reckonValues 63 = .ok (.iload_n 1, 1) := dk_27 (dk_at dksX55_reckonValues_2 16 rfl rfl)
theorem dX55_reckonValues_64 : decode cX55_reckonValues 64 = .ok (.iaload, 1) := dk_46 (dk_at dksX55_reckonValues_2 17 rfl rfl)
theorem dX55_reckonValues_65 : decode cX55_reckonValues 65 = .ok (.iastore, 1) := dk_79 (dk_at dksX55_reckonValues_2 18 rfl rfl)
theorem dX55_reckonValues_66 : decode cX55_reckonValues 66 = .ok (.iinc 2 1, 3) := dk_132 2 1 (dk_at dksX55_reckonValues_2 19 rfl rfl)
theorem dX55_reckonValues_69 : decode cX55_reckonValues 69 = .ok (.goto (-50), 3) := dk_167 255 206 (dk_at dksX55_reckonValues_3 0 rfl rfl)
theorem dX55_reckonValues_72 : decode cX55_reckonValues 72 = .ok (.iinc 1 1, 3) := dk_132 1 1 (dk_at dksX55_reckonValues_3 3 rfl rfl)
theorem dX55_reckonValues_75 : decode cX55_reckonValues 75 = .ok (.goto (-73), 3) := dk_167 255 183 (dk_at dksX55_reckonValues_3 6 rfl rfl)
theorem dX55_reckonValues_78 : decode cX55_reckonValues 78 = .ok (.iconst 0, 1) := dk_3 (dk_at dksX55_reckonValues_3 9 rfl rfl)
theorem dX55_reckonValues_79 : decode cX55_reckonValues 79 = .ok (.istore_n 1, 1) := dk_60 (dk_at dksX55_reckonValues_3 10 rfl rfl)
theorem dX55_reckonValues_80 : decode cX55_reckonValues 80 = .ok (.iload_n 1, 1) := dk_27 (dk_at dksX55_reckonValues_3 11 rfl rfl)
theorem dX55_reckonValues_81 : decode cX55_reckonValues 81 = .ok (.iconst 1, 1) := dk_4 (dk_at dksX55_reckonValues_3 12 rfl rfl)
theorem dX55_reckonValues_82 : decode cX55_reckonValues 82 = .ok (.aload_n 0, 1) := dk_42 (dk_at dksX55_reckonValues_3 13 rfl rfl)
theorem dX55_reckonValues_83 : decode cX55_reckonValues 83 = .ok (.getfield 89, 3) := dk_180 0 89 (dk_at dksX55_reckonValues_3 14 rfl rfl)
theorem dX55_reckonValues_86 : decode cX55_reckonValues 86 = .ok (.ishl, 1) := dk_120 (dk_at dksX55_reckonValues_3 17 rfl rfl)
theorem dX55_reckonValues_87 : decode cX55_reckonValues 87 = .ok (.if_icmp .ge 20, 3) := dk_162 0 20 (dk_at dksX55_reckonValues_3 18 rfl rfl)
theorem dX55_reckonValues_90 : decode cX55_reckonValues 90 = .ok (.aload_n 0, 1) := dk_42 (dk_at dksX55_reckonValues_3 21 rfl rfl)
theorem dX55_reckonValues_91 : decode cX55_reckonValues 91 = .ok (.getfield 73, 3) := dk_180 0 73 (dk_at dksX55_reckonValues_4 0 rfl rfl)
theorem dX55_reckonValues_94 : decode cX55_reckonValues 94 = .ok (.iload_n 1, 1) := dk_27 (dk_at dksX55_reckonValues_4 3 rfl rfl)
theorem dX55_reckonValues_95 : decode cX55_reckonValues 95 = .ok (.aload_n 0, 1) := dk_42 (dk_at dksX55_reckonValues_4 4 rfl rfl)
theorem dX55_reckonValues_96 : decode cX55_reckonValues 96 = .ok (.iload_n 1, 1) := dk_27 (dk_at dksX55_reckonValues_4 5 rfl rfl)
theorem dX55_reckonValues_97 : decode cX55_reckonValues 97 = .ok (.invokevirtual 143, 3) := dk_182 0 143 (dk_at dksX55_reckonValues_4 6 rfl rfl)
theorem dX55_reckonValues_100 : decode cX55_reckonValues 100 = .ok (.lastore, 1) := dk_80 (dk_at dksX55_reckonValues_4 9 rfl rfl)
theorem dX55_reckonValues_101 : decode cX55_reckonValues 101 = .ok (.iinc 1 1, 3) := dk_132 1 1 (dk_at dksX55_reckonValues_4 10 rfl rfl)
theorem dX55_reckonValues_104 : decode cX55_reckonValues 104 = .ok (.goto (-24), 3) := dk_167 255 232 (dk_at dksX55_reckonValues_4 13 rfl rfl)
theorem dX55_reckonValues_107 : decode cX55_reckonValues 107 = .ok (.return_, 1) := dk_177 (dk_at dksX55_reckonValues_4 16 rfl rfl)
abbrev cX55_valueOf : ByteArray := prog_57_method_22_code
def yX55_valueOf : MethodName := ⟨RX55, "valueOf", "(I)J"⟩
def dkwX55_valueOf_3 : List UInt8 := [21, 5, 47, 105, 167, 0, 4, 9, 97, 65, 132, 5, 1, 167, 255, 214, 32, 173]
abbrev dktX55_valueOf_3 : List UInt8 := dkwX55_valueOf_3 ++ []
def dkwX55_valueOf_2 : List UInt8 := [162, 0, 39, 32, 42, 180, 0, 45, 21, 5, 46, 21, 4, 160, 0, 17, 20, 0, 133, 42, 180, 0, 48]
abbrev dktX55_valueOf_2 : List UInt8 := dkwX55_valueOf_2 ++ dktX55_valueOf_3
def dkwX55_valueOf_1 : List UInt8 := [132, 4, 1, 167, 255, 236, 42, 27, 182, 0, 139, 54, 4, 3, 54, 5, 21, 5, 42, 180, 0, 119]
abbrev dktX55_valueOf_1 : List UInt8 := dkwX55_valueOf_1 ++ dktX55_valueOf_2
def dkwX55_valueOf_0 : List UInt8 := [9, 65, 3, 54, 4, 21, 4, 16, 12, 162, 0, 19, 32, 42, 21, 4, 27, 182, 0, 135, 97, 65]
abbrev dktX55_valueOf_0 : List UInt8 := dkwX55_valueOf_0 ++ dktX55_valueOf_1
theorem dksX55_valueOf_0 : cX55_valueOf.data.toList.drop 0 = dktX55_valueOf_0 := by decide +kernel
theorem dksX55_valueOf_1 : cX55_valueOf.data.toList.drop 22 = dktX55_valueOf_1 := dk_seg dksX55_valueOf_0 22 rfl rfl
theorem dksX55_valueOf_2 : cX55_valueOf.data.toList.drop 44 = dktX55_valueOf_2 := dk_seg dksX55_valueOf_1 22 rfl rfl
theorem dksX55_valueOf_3 : cX55_valueOf.data.toList.drop 67 = dktX55_valueOf_3 := dk_seg dksX55_valueOf_2 23 rfl rfl
theorem dX55_valueOf_0 : decode cX55_valueOf 0 = .ok (.lconst 0, 1) := dk_9 (dk_at dksX55_valueOf_0 0 rfl rfl)
theorem dX55_valueOf_1 : decode cX55_valueOf 1 = .ok (.lstore_n 2, 1) := dk_65 (dk_at dksX55_valueOf_0 1 rfl rfl)
theorem dX55_valueOf_2 : decode cX55_valueOf 2 = .ok (.iconst 0, 1) := dk_3 (dk_at dksX55_valueOf_0 2 rfl rfl)
theorem dX55_valueOf_3 : decode cX55_valueOf 3 = .ok (.istore 4, 2) := dk_54 4 (dk_at dksX55_valueOf_0 3 rfl rfl)
theorem dX55_valueOf_5 : decode cX55_valueOf 5 = .ok (.iload 4, 2) := dk_21 4 (dk_at dksX55_valueOf_0 5 rfl rfl)
theorem dX55_valueOf_7 : decode cX55_valueOf 7 = .ok (.bipush 12, 2) := dk_16 12 (dk_at dksX55_valueOf_0 7 rfl rfl)
theorem dX55_valueOf_9 : decode cX55_valueOf 9 = .ok (.if_icmp .ge 19, 3) := dk_162 0 19 (dk_at dksX55_valueOf_0 9 rfl rfl)
theorem dX55_valueOf_12 : decode cX55_valueOf 12 = .ok (.lload_n 2, 1) := dk_32 (dk_at dksX55_valueOf_0 12 rfl rfl)
theorem dX55_valueOf_13 : decode cX55_valueOf 13 = .ok (.aload_n 0, 1) := dk_42 (dk_at dksX55_valueOf_0 13 rfl rfl)
theorem dX55_valueOf_14 : decode cX55_valueOf 14 = .ok (.iload 4, 2) := dk_21 4 (dk_at dksX55_valueOf_0 14 rfl rfl)
theorem dX55_valueOf_16 : decode cX55_valueOf 16 = .ok (.iload_n 1, 1) := dk_27 (dk_at dksX55_valueOf_0 16 rfl rfl)
theorem dX55_valueOf_17 : decode cX55_valueOf 17 = .ok (.invokevirtual 135, 3) := dk_182 0 135 (dk_at dksX55_valueOf_0 17 rfl rfl)
theorem dX55_valueOf_20 : decode cX55_valueOf 20 = .ok (.ladd, 1) := dk_97 (dk_at dksX55_valueOf_0 20 rfl rfl)
theorem dX55_valueOf_21 : decode cX55_valueOf 21 = .ok (.lstore_n 2, 1) := dk_65 (dk_at dksX55_valueOf_0 21 rfl rfl)
theorem dX55_valueOf_22 : decode cX55_valueOf 22 = .ok (.iinc 4 1, 3) := dk_132 4 1 (dk_at dksX55_valueOf_1 0 rfl rfl)
theorem dX55_valueOf_25 : decode cX55_valueOf 25 = .ok (.goto (-20), 3) := dk_167 255 236 (dk_at dksX55_valueOf_1 3 rfl rfl)
theorem dX55_valueOf_28 : decode cX55_valueOf 28 = .ok (.aload_n 0, 1) := dk_42 (dk_at dksX55_valueOf_1 6 rfl rfl)
theorem dX55_valueOf_29 : decode cX55_valueOf 29 = .ok (.iload_n 1, 1) := dk_27 (dk_at dksX55_valueOf_1 7 rfl rfl)
theorem dX55_valueOf_30 : decode cX55_valueOf 30 = .ok (.invokevirtual 139, 3) := dk_182 0 139 (dk_at dksX55_valueOf_1 8 rfl rfl)
theorem dX55_valueOf_33 : decode cX55_valueOf 33 = .ok (.istore 4, 2) := dk_54 4 (dk_at dksX55_valueOf_1 11 rfl rfl)
theorem dX55_valueOf_35 : decode cX55_valueOf 35 = .ok (.iconst 0, 1) := dk_3 (dk_at dksX55_valueOf_1 13 rfl rfl)
theorem dX55_valueOf_36 : decode cX55_valueOf 36 = .ok (.istore 5, 2) := dk_54 5 (dk_at dksX55_valueOf_1 14 rfl rfl)
theorem dX55_valueOf_38 : decode cX55_valueOf 38 = .ok (.iload 5, 2) := dk_21 5 (dk_at dksX55_valueOf_1 16 rfl rfl)
theorem dX55_valueOf_40 : decode cX55_valueOf 40 = .ok (.aload_n 0, 1) := dk_42 (dk_at dksX55_valueOf_1 18 rfl rfl)
theorem dX55_valueOf_41 : decode cX55_valueOf 41 = .ok (.getfield 119, 3) := dk_180 0 119 (dk_at dksX55_valueOf_1 19 rfl rfl)
theorem dX55_valueOf_44 : decode cX55_valueOf 44 = .ok (.if_icmp .ge 39, 3) := dk_162 0 39 (dk_at dksX55_valueOf_2 0 rfl rfl)
theorem dX55_valueOf_47 : decode cX55_valueOf 47 = .ok (.lload_n 2, 1) := dk_32 (dk_at dksX55_valueOf_2 3 rfl rfl)
theorem dX55_valueOf_48 : decode cX55_valueOf 48 = .ok (.aload_n 0, 1) := dk_42 (dk_at dksX55_valueOf_2 4 rfl rfl)
theorem dX55_valueOf_49 : decode cX55_valueOf 49 = .ok (.getfield 45, 3) := dk_180 0 45 (dk_at dksX55_valueOf_2 5 rfl rfl)
theorem dX55_valueOf_52 : decode cX55_valueOf 52 = .ok (.iload 5, 2) := dk_21 5 (dk_at dksX55_valueOf_2 8 rfl rfl)
theorem dX55_valueOf_54 : decode cX55_valueOf 54 = .ok (.iaload, 1) := dk_46 (dk_at dksX55_valueOf_2 10 rfl rfl)
theorem dX55_valueOf_55 : decode cX55_valueOf 55 = .ok (.iload 4, 2) := dk_21 4 (dk_at dksX55_valueOf_2 11 rfl rfl)
theorem dX55_valueOf_57 : decode cX55_valueOf 57 = .ok (.if_icmp .ne 17, 3) := dk_160 0 17 (dk_at dksX55_valueOf_2 13 rfl rfl)
theorem dX55_valueOf_60 : decode cX55_valueOf 60 = .ok (.ldc2_w 133, 3) := dk_20 0 133 (dk_at dksX55_valueOf_2 16 rfl rfl)
theorem dX55_valueOf_63 : decode cX55_valueOf 63 = .ok (.aload_n 0, 1) := dk_42 (dk_at dksX55_valueOf_2 19 rfl rfl)
theorem dX55_valueOf_64 : decode cX55_valueOf 64 = .ok (.getfield 48, 3) := dk_180 0 48 (dk_at dksX55_valueOf_2 20 rfl rfl)
theorem dX55_valueOf_67 : decode cX55_valueOf 67 = .ok (.iload 5, 2) := dk_21 5 (dk_at dksX55_valueOf_3 0 rfl rfl)
theorem dX55_valueOf_69 : decode cX55_valueOf 69 = .ok (.laload, 1) := dk_47 (dk_at dksX55_valueOf_3 2 rfl rfl)
theorem dX55_valueOf_70 : decode cX55_valueOf 70 = .ok (.lmul, 1) := dk_105 (dk_at dksX55_valueOf_3 3 rfl rfl)
theorem dX55_valueOf_71 : decode cX55_valueOf 71 = .ok (.goto 4, 3) := dk_167 0 4 (dk_at dksX55_valueOf_3 4 rfl rfl)
theorem dX55_valueOf_74 : decode cX55_valueOf 74 = .ok (.lconst 0, 1) := dk_9 (dk_at dksX55_valueOf_3 7 rfl rfl)
theorem dX55_valueOf_75 : decode cX55_valueOf 75 = .ok (.ladd, 1) := dk_97 (dk_at dksX55_valueOf_3 8 rfl rfl)
theorem dX55_valueOf_76 : decode cX55_valueOf 76 = .ok (.lstore_n 2, 1) := dk_65 (dk_at dksX55_valueOf_3 9 rfl rfl)
theorem dX55_valueOf_77 : decode cX55_valueOf 77 = .ok (.iinc 5 1, 3) := dk_132 5 1 (dk_at dksX55_valueOf_3 10 rfl rfl)
theorem dX55_valueOf_80 : decode cX55_valueOf 80 = .ok (.goto (-42), 3) := dk_167 255 214 (dk_at dksX55_valueOf_3 13 rfl rfl)
theorem dX55_valueOf_83 : decode cX55_valueOf 83 = .ok (.lload_n 2, 1) := dk_32 (dk_at dksX55_valueOf_3 16 rfl rfl)
theorem dX55_valueOf_84 : decode cX55_valueOf 84 = .ok (.lreturn, 1) := dk_173 (dk_at dksX55_valueOf_3 17 rfl rfl)
abbrev cX55_bringsOf : ByteArray := prog_57_method_20_code
def yX55_bringsOf : MethodName := ⟨RX55, "bringsOf", "(II)J"⟩
def dkwX55_bringsOf_6 : List UInt8 := [180, 0, 36, 27, 47, 105, 42, 180, 0, 42, 27, 46, 133, 109, 42, 180, 0, 39, 27, 46, 133, 105, 173]
abbrev dktX55_bringsOf_6 : List UInt8 := dkwX55_bringsOf_6 ++ []
def dkwX55_bringsOf_5 : List UInt8 := [160, 0, 16, 20, 0, 133, 42, 180, 0, 36, 27, 47, 105, 167, 0, 4, 9, 173, 20, 0, 133, 42]
abbrev dktX55_bringsOf_5 : List UInt8 := dkwX55_bringsOf_5 ++ dktX55_bringsOf_6
def dkwX55_bringsOf_4 : List UInt8 := [153, 0, 8, 21, 4, 154, 0, 5, 9, 173, 27, 42, 180, 0, 64, 160, 0, 26, 42, 180, 0, 130, 4]
abbrev dktX55_bringsOf_4 : List UInt8 := dkwX55_bringsOf_4 ++ dktX55_bringsOf_5
def dkwX55_bringsOf_3 : List UInt8 := [42, 180, 0, 23, 21, 5, 51, 154, 0, 7, 4, 167, 0, 4, 3, 54, 4, 132, 5, 1, 167, 255, 175, 29]
abbrev dktX55_bringsOf_3 : List UInt8 := dkwX55_bringsOf_3 ++ dktX55_bringsOf_4
def dkwX55_bringsOf_2 : List UInt8 := [154, 0, 8, 21, 6, 153, 0, 7, 4, 167, 0, 4, 3, 62, 21, 4, 153, 0, 22, 21, 6, 153, 0, 13]
abbrev dktX55_bringsOf_2 : List UInt8 := dkwX55_bringsOf_2 ++ dktX55_bringsOf_3
def dkwX55_bringsOf_1 : List UInt8 := [153, 0, 18, 42, 180, 0, 7, 21, 5, 46, 27, 160, 0, 7, 4, 167, 0, 4, 3, 54, 6, 29]
abbrev dktX55_bringsOf_1 : List UInt8 := dkwX55_bringsOf_1 ++ dktX55_bringsOf_2
def dkwX55_bringsOf_0 : List UInt8 := [3, 62, 4, 54, 4, 3, 54, 5, 21, 5, 42, 180, 0, 89, 162, 0, 78, 28, 21, 5, 184, 0, 124]
abbrev dktX55_bringsOf_0 : List UInt8 := dkwX55_bringsOf_0 ++ dktX55_bringsOf_1
theorem dksX55_bringsOf_0 : cX55_bringsOf.data.toList.drop 0 = dktX55_bringsOf_0 := by decide +kernel
theorem dksX55_bringsOf_1 : cX55_bringsOf.data.toList.drop 23 = dktX55_bringsOf_1 := dk_seg dksX55_bringsOf_0 23 rfl rfl
theorem dksX55_bringsOf_2 : cX55_bringsOf.data.toList.drop 45 = dktX55_bringsOf_2 := dk_seg dksX55_bringsOf_1 22 rfl rfl
theorem dksX55_bringsOf_3 : cX55_bringsOf.data.toList.drop 69 = dktX55_bringsOf_3 := dk_seg dksX55_bringsOf_2 24 rfl rfl
theorem dksX55_bringsOf_4 : cX55_bringsOf.data.toList.drop 93 = dktX55_bringsOf_4 := dk_seg dksX55_bringsOf_3 24 rfl rfl
theorem dksX55_bringsOf_5 : cX55_bringsOf.data.toList.drop 116 = dktX55_bringsOf_5 := dk_seg dksX55_bringsOf_4 23 rfl rfl
theorem dksX55_bringsOf_6 : cX55_bringsOf.data.toList.drop 138 = dktX55_bringsOf_6 := dk_seg dksX55_bringsOf_5 22 rfl rfl
theorem dX55_bringsOf_0 : decode cX55_bringsOf 0 = .ok (.iconst 0, 1) := dk_3 (dk_at dksX55_bringsOf_0 0 rfl rfl)
theorem dX55_bringsOf_1 : decode cX55_bringsOf 1 = .ok (.istore_n 3, 1) := dk_62 (dk_at dksX55_bringsOf_0 1 rfl rfl)
theorem dX55_bringsOf_2 : decode cX55_bringsOf 2 = .ok (.iconst 1, 1) := dk_4 (dk_at dksX55_bringsOf_0 2 rfl rfl)
theorem dX55_bringsOf_3 : decode cX55_bringsOf 3 = .ok (.istore 4, 2) := dk_54 4 (dk_at dksX55_bringsOf_0 3 rfl rfl)
theorem dX55_bringsOf_5 : decode cX55_bringsOf 5 = .ok (.iconst 0, 1) := dk_3 (dk_at dksX55_bringsOf_0 5 rfl rfl)
theorem dX55_bringsOf_6 : decode cX55_bringsOf 6 = .ok (.istore 5, 2) := dk_54 5 (dk_at dksX55_bringsOf_0 6 rfl rfl)
theorem dX55_bringsOf_8 : decode cX55_bringsOf 8 = .ok (.iload 5, 2) := dk_21 5 (dk_at dksX55_bringsOf_0 8 rfl rfl)
theorem dX55_bringsOf_10 : decode cX55_bringsOf 10 = .ok (.aload_n 0, 1) := dk_42 (dk_at dksX55_bringsOf_0 10 rfl rfl)
theorem dX55_bringsOf_11 : decode cX55_bringsOf 11 = .ok (.getfield 89, 3) := dk_180 0 89 (dk_at dksX55_bringsOf_0 11 rfl rfl)
theorem dX55_bringsOf_14 : decode cX55_bringsOf 14 = .ok (.if_icmp .ge 78, 3) := dk_162 0 78 (dk_at dksX55_bringsOf_0 14 rfl rfl)
theorem dX55_bringsOf_17 : decode cX55_bringsOf 17 = .ok (.iload_n 2, 1) := dk_28 (dk_at dksX55_bringsOf_0 17 rfl rfl)
theorem dX55_bringsOf_18 : decode cX55_bringsOf 18 = .ok (.iload 5, 2) := dk_21 5 (dk_at dksX55_bringsOf_0 18 rfl rfl)
theorem dX55_bringsOf_20 : decode cX55_bringsOf 20 = .ok (.invokestatic 124, 3) := dk_184 0 124 (dk_at dksX55_bringsOf_0 20 rfl rfl)
theorem dX55_bringsOf_23 : decode cX55_bringsOf 23 = .ok (.ifCond .eq 18, 3) := dk_153 0 18 (dk_at dksX55_bringsOf_1 0 rfl rfl)
theorem dX55_bringsOf_26 : decode cX55_bringsOf 26 = .ok (.aload_n 0, 1) := dk_42 (dk_at dksX55_bringsOf_1 3 rfl rfl)
theorem dX55_bringsOf_27 : decode cX55_bringsOf 27 = .ok (.getfield 7, 3) := dk_180 0 7 (dk_at dksX55_bringsOf_1 4 rfl rfl)
theorem dX55_bringsOf_30 : decode cX55_bringsOf 30 = .ok (.iload 5, 2) := dk_21 5 (dk_at dksX55_bringsOf_1 7 rfl rfl)
theorem dX55_bringsOf_32 : decode cX55_bringsOf 32 = .ok (.iaload, 1) := dk_46 (dk_at dksX55_bringsOf_1 9 rfl rfl)
theorem dX55_bringsOf_33 : decode cX55_bringsOf 33 = .ok (.iload_n 1, 1) := dk_27 (dk_at dksX55_bringsOf_1 10 rfl rfl)
theorem dX55_bringsOf_34 : decode cX55_bringsOf 34 = .ok (.if_icmp .ne 7, 3) := dk_160 0 7 (dk_at dksX55_bringsOf_1 11 rfl rfl)
theorem dX55_bringsOf_37 : decode cX55_bringsOf 37 = .ok (.iconst 1, 1) := dk_4 (dk_at dksX55_bringsOf_1 14 rfl rfl)
theorem dX55_bringsOf_38 : decode cX55_bringsOf 38 = .ok (.goto 4, 3) := dk_167 0 4 (dk_at dksX55_bringsOf_1 15 rfl rfl)
theorem dX55_bringsOf_41 : decode cX55_bringsOf 41 = .ok (.iconst 0, 1) := dk_3 (dk_at dksX55_bringsOf_1 18 rfl rfl)
theorem dX55_bringsOf_42 : decode cX55_bringsOf 42 = .ok (.istore 6, 2) := dk_54 6 (dk_at dksX55_bringsOf_1 19 rfl rfl)
theorem dX55_bringsOf_44 : decode cX55_bringsOf 44 = .ok (.iload_n 3, 1) := dk_29 (dk_at dksX55_bringsOf_1 21 rfl rfl)
theorem dX55_bringsOf_45 : decode cX55_bringsOf 45 = .ok (.ifCond .ne 8, 3) := dk_154 0 8 (dk_at dksX55_bringsOf_2 0 rfl rfl)
theorem dX55_bringsOf_48 : decode cX55_bringsOf 48 = .ok (.iload 6, 2) := dk_21 6 (dk_at dksX55_bringsOf_2 3 rfl rfl)
theorem dX55_bringsOf_50 : decode cX55_bringsOf 50 = .ok (.ifCond .eq 7, 3) := dk_153 0 7 (dk_at dksX55_bringsOf_2 5 rfl rfl)
theorem dX55_bringsOf_53 : decode cX55_bringsOf 53 = .ok (.iconst 1, 1) := dk_4 (dk_at dksX55_bringsOf_2 8 rfl rfl)
theorem dX55_bringsOf_54 : decode cX55_bringsOf 54 = .ok (.goto 4, 3) := dk_167 0 4 (dk_at dksX55_bringsOf_2 9 rfl rfl)
theorem dX55_bringsOf_57 : decode cX55_bringsOf 57 = .ok (.iconst 0, 1) := dk_3 (dk_at dksX55_bringsOf_2 12 rfl rfl)
theorem dX55_bringsOf_58 : decode cX55_bringsOf 58 = .ok (.istore_n 3, 1) := dk_62 (dk_at dksX55_bringsOf_2 13 rfl rfl)
theorem dX55_bringsOf_59 : decode cX55_bringsOf 59 = .ok (.iload 4, 2) := dk_21 4 (dk_at dksX55_bringsOf_2 14 rfl rfl)
theorem dX55_bringsOf_61 : decode cX55_bringsOf 61 = .ok (.ifCond .eq 22, 3) := dk_153 0 22 (dk_at dksX55_bringsOf_2 16 rfl rfl)
theorem dX55_bringsOf_64 : decode cX55_bringsOf 64 = .ok (.iload 6, 2) := dk_21 6 (dk_at dksX55_bringsOf_2 19 rfl rfl)
theorem dX55_bringsOf_66 : decode cX55_bringsOf 66 = .ok (.ifCond .eq 13, 3) := dk_153 0 13 (dk_at dksX55_bringsOf_2 21 rfl rfl)
theorem dX55_bringsOf_69 : decode cX55_bringsOf 69 = .ok (.aload_n 0, 1) := dk_42 (dk_at dksX55_bringsOf_3 0 rfl rfl)
theorem dX55_bringsOf_70 : decode cX55_bringsOf 70 = .ok (.getfield 23, 3) := dk_180 0 23 (dk_at dksX55_bringsOf_3 1 rfl rfl)
theorem dX55_bringsOf_73 : decode cX55_bringsOf 73 = .ok (.iload 5, 2) := dk_21 5 (dk_at dksX55_bringsOf_3 4 rfl rfl)
theorem dX55_bringsOf_75 : decode cX55_bringsOf 75 = .ok (.baload, 1) := dk_51 (dk_at dksX55_bringsOf_3 6 rfl rfl)
theorem dX55_bringsOf_76 : decode cX55_bringsOf 76 = .ok (.ifCond .ne 7, 3) := dk_154 0 7 (dk_at dksX55_bringsOf_3 7 rfl rfl)
theorem dX55_bringsOf_79 : decode cX55_bringsOf 79 = .ok (.iconst 1, 1) := dk_4 (dk_at dksX55_bringsOf_3 10 rfl rfl)
theorem dX55_bringsOf_80 : decode cX55_bringsOf 80 = .ok (.goto 4, 3) := dk_167 0 4 (dk_at dksX55_bringsOf_3 11 rfl rfl)
theorem dX55_bringsOf_83 : decode cX55_bringsOf 83 = .ok (.iconst 0, 1) := dk_3 (dk_at dksX55_bringsOf_3 14 rfl rfl)
theorem dX55_bringsOf_84 : decode cX55_bringsOf 84 = .ok (.istore 4, 2) := dk_54 4 (dk_at dksX55_bringsOf_3 15 rfl rfl)
theorem dX55_bringsOf_86 : decode cX55_bringsOf 86 = .ok (.iinc 5 1, 3) := dk_132 5 1 (dk_at dksX55_bringsOf_3 17 rfl rfl)
theorem dX55_bringsOf_89 : decode cX55_bringsOf 89 = .ok (.goto (-81), 3) := dk_167 255 175 (dk_at dksX55_bringsOf_3 20 rfl rfl)
theorem dX55_bringsOf_92 : decode cX55_bringsOf 92 = .ok (.iload_n 3, 1) := dk_29 (dk_at dksX55_bringsOf_3 23 rfl rfl)
theorem dX55_bringsOf_93 : decode cX55_bringsOf 93 = .ok (.ifCond .eq 8, 3) := dk_153 0 8 (dk_at dksX55_bringsOf_4 0 rfl rfl)
theorem dX55_bringsOf_96 : decode cX55_bringsOf 96 = .ok (.iload 4, 2) := dk_21 4 (dk_at dksX55_bringsOf_4 3 rfl rfl)
theorem dX55_bringsOf_98 : decode cX55_bringsOf 98 = .ok (.ifCond .ne 5, 3) := dk_154 0 5 (dk_at dksX55_bringsOf_4 5 rfl rfl)
theorem dX55_bringsOf_101 : decode cX55_bringsOf 101 = .ok (.lconst 0, 1) := dk_9 (dk_at dksX55_bringsOf_4 8 rfl rfl)
theorem dX55_bringsOf_102 : decode cX55_bringsOf 102 = .ok (.lreturn, 1) := dk_173 (dk_at dksX55_bringsOf_4 9 rfl rfl)
theorem dX55_bringsOf_103 : decode cX55_bringsOf 103 = .ok (.iload_n 1, 1) := dk_27 (dk_at dksX55_bringsOf_4 10 rfl rfl)
theorem dX55_bringsOf_104 : decode cX55_bringsOf 104 = .ok (.aload_n 0, 1) := dk_42 (dk_at dksX55_bringsOf_4 11 rfl rfl)
theorem dX55_bringsOf_105 : decode cX55_bringsOf 105 = .ok (.getfield 64, 3) := dk_180 0 64 (dk_at dksX55_bringsOf_4 12 rfl rfl)
theorem dX55_bringsOf_108 : decode cX55_bringsOf 108 = .ok (.if_icmp .ne 26, 3) := dk_160 0 26 (dk_at dksX55_bringsOf_4 15 rfl rfl)
theorem dX55_bringsOf_111 : decode cX55_bringsOf 111 = .ok (.aload_n 0, 1) := dk_42 (dk_at dksX55_bringsOf_4 18 rfl rfl)
theorem dX55_bringsOf_112 : decode cX55_bringsOf 112 = .ok (.getfield 130, 3) := dk_180 0 130 (dk_at dksX55_bringsOf_4 19 rfl rfl)
theorem dX55_bringsOf_115 : decode cX55_bringsOf 115 = .ok (.iconst 1, 1) := dk_4 (dk_at dksX55_bringsOf_4 22 rfl rfl)
theorem dX55_bringsOf_116 : decode cX55_bringsOf 116 = .ok (.if_icmp .ne 16, 3) := dk_160 0 16 (dk_at dksX55_bringsOf_5 0 rfl rfl)
theorem dX55_bringsOf_119 : decode cX55_bringsOf 119 = .ok (.ldc2_w 133, 3) := dk_20 0 133 (dk_at dksX55_bringsOf_5 3 rfl rfl)
theorem dX55_bringsOf_122 : decode cX55_bringsOf 122 = .ok (.aload_n 0, 1) := dk_42 (dk_at dksX55_bringsOf_5 6 rfl rfl)
theorem dX55_bringsOf_123 : decode cX55_bringsOf 123 = .ok (.getfield 36, 3) := dk_180 0 36 (dk_at dksX55_bringsOf_5 7 rfl rfl)
theorem dX55_bringsOf_126 : decode cX55_bringsOf 126 = .ok (.iload_n 1, 1) := dk_27 (dk_at dksX55_bringsOf_5 10 rfl rfl)
theorem dX55_bringsOf_127 : decode cX55_bringsOf 127 = .ok (.laload, 1) := dk_47 (dk_at dksX55_bringsOf_5 11 rfl rfl)
theorem dX55_bringsOf_128 : decode cX55_bringsOf 128 = .ok (.lmul, 1) := dk_105 (dk_at dksX55_bringsOf_5 12 rfl rfl)
theorem dX55_bringsOf_129 : decode cX55_bringsOf 129 = .ok (.goto 4, 3) := dk_167 0 4 (dk_at dksX55_bringsOf_5 13 rfl rfl)
theorem dX55_bringsOf_132 : decode cX55_bringsOf 132 = .ok (.lconst 0, 1) := dk_9 (dk_at dksX55_bringsOf_5 16 rfl rfl)
theorem dX55_bringsOf_133 : decode cX55_bringsOf 133 = .ok (.lreturn, 1) := dk_173 (dk_at dksX55_bringsOf_5 17 rfl rfl)
theorem dX55_bringsOf_134 : decode cX55_bringsOf 134 = .ok (.ldc2_w 133, 3) := dk_20 0 133 (dk_at dksX55_bringsOf_5 18 rfl rfl)
theorem dX55_bringsOf_137 : decode cX55_bringsOf 137 = .ok (.aload_n 0, 1) := dk_42 (dk_at dksX55_bringsOf_5 21 rfl rfl)
theorem dX55_bringsOf_138 : decode cX55_bringsOf 138 = .ok (.getfield 36, 3) := dk_180 0 36 (dk_at dksX55_bringsOf_6 0 rfl rfl)
theorem dX55_bringsOf_141 : decode cX55_bringsOf 141 = .ok (.iload_n 1, 1) := dk_27 (dk_at dksX55_bringsOf_6 3 rfl rfl)
theorem dX55_bringsOf_142 : decode cX55_bringsOf 142 = .ok (.laload, 1) := dk_47 (dk_at dksX55_bringsOf_6 4 rfl rfl)
theorem dX55_bringsOf_143 : decode cX55_bringsOf 143 = .ok (.lmul, 1) := dk_105 (dk_at dksX55_bringsOf_6 5 rfl rfl)
theorem dX55_bringsOf_144 : decode cX55_bringsOf 144 = .ok (.aload_n 0, 1) := dk_42 (dk_at dksX55_bringsOf_6 6 rfl rfl)
theorem dX55_bringsOf_145 : decode cX55_bringsOf 145 = .ok (.getfield 42, 3) := dk_180 0 42 (dk_at dksX55_bringsOf_6 7 rfl rfl)
theorem dX55_bringsOf_148 : decode cX55_bringsOf 148 = .ok (.iload_n 1, 1) := dk_27 (dk_at dksX55_bringsOf_6 10 rfl rfl)
theorem dX55_bringsOf_149 : decode cX55_bringsOf 149 = .ok (.iaload, 1) := dk_46 (dk_at dksX55_bringsOf_6 11 rfl rfl)
theorem dX55_bringsOf_150 : decode cX55_bringsOf 150 = .ok (.i2l, 1) := dk_133 (dk_at dksX55_bringsOf_6 12 rfl rfl)
theorem dX55_bringsOf_151 : decode cX55_bringsOf 151 = .ok (.ldiv, 1) := dk_109 (dk_at dksX55_bringsOf_6 13 rfl rfl)
theorem dX55_bringsOf_152 : decode cX55_bringsOf 152 = .ok (.aload_n 0, 1) := dk_42 (dk_at dksX55_bringsOf_6 14 rfl rfl)
theorem dX55_bringsOf_153 : decode cX55_bringsOf 153 = .ok (.getfield 39, 3) := dk_180 0 39 (dk_at dksX55_bringsOf_6 15 rfl rfl)
theorem dX55_bringsOf_156 : decode cX55_bringsOf 156 = .ok (.iload_n 1, 1) := dk_27 (dk_at dksX55_bringsOf_6 18 rfl rfl)
theorem dX55_bringsOf_157 : decode cX55_bringsOf 157 = .ok (.iaload, 1) := dk_46 (dk_at dksX55_bringsOf_6 19 rfl rfl)
theorem dX55_bringsOf_158 : decode cX55_bringsOf 158 = .ok (.i2l, 1) := dk_133 (dk_at dksX55_bringsOf_6 20 rfl rfl)
theorem dX55_bringsOf_159 : decode cX55_bringsOf 159 = .ok (.lmul, 1) := dk_105 (dk_at dksX55_bringsOf_6 21 rfl rfl)
theorem dX55_bringsOf_160 : decode cX55_bringsOf 160 = .ok (.lreturn, 1) := dk_173 (dk_at dksX55_bringsOf_6 22 rfl rfl)
abbrev cX55_restOf : ByteArray := prog_57_method_21_code
def yX55_restOf : MethodName := ⟨RX55, "restOf", "(I)I"⟩
def dkwX55_restOf_2 : List UInt8 := [180, 0, 7, 29, 46, 120, 100, 167, 0, 4, 28, 61, 132, 3, 1, 167, 255, 200, 28, 172]
abbrev dktX55_restOf_2 : List UInt8 := dkwX55_restOf_2 ++ []
def dkwX55_restOf_1 : List UInt8 := [180, 0, 7, 29, 46, 155, 0, 29, 28, 42, 180, 0, 7, 29, 46, 184, 0, 124, 153, 0, 16, 28, 4, 42]
abbrev dktX55_restOf_1 : List UInt8 := dkwX55_restOf_1 ++ dktX55_restOf_2
def dkwX55_restOf_0 : List UInt8 := [17, 15, 255, 61, 3, 62, 29, 42, 180, 0, 89, 162, 0, 54, 27, 29, 184, 0, 124, 153, 0, 38, 42]
abbrev dktX55_restOf_0 : List UInt8 := dkwX55_restOf_0 ++ dktX55_restOf_1
theorem dksX55_restOf_0 : cX55_restOf.data.toList.drop 0 = dktX55_restOf_0 := by decide +kernel
theorem dksX55_restOf_1 : cX55_restOf.data.toList.drop 23 = dktX55_restOf_1 := dk_seg dksX55_restOf_0 23 rfl rfl
theorem dksX55_restOf_2 : cX55_restOf.data.toList.drop 47 = dktX55_restOf_2 := dk_seg dksX55_restOf_1 24 rfl rfl
theorem dX55_restOf_0 : decode cX55_restOf 0 = .ok (.sipush 4095, 3) := dk_17 15 255 (dk_at dksX55_restOf_0 0 rfl rfl)
theorem dX55_restOf_3 : decode cX55_restOf 3 = .ok (.istore_n 2, 1) := dk_61 (dk_at dksX55_restOf_0 3 rfl rfl)
theorem dX55_restOf_4 : decode cX55_restOf 4 = .ok (.iconst 0, 1) := dk_3 (dk_at dksX55_restOf_0 4 rfl rfl)
theorem dX55_restOf_5 : decode cX55_restOf 5 = .ok (.istore_n 3, 1) := dk_62 (dk_at dksX55_restOf_0 5 rfl rfl)
theorem dX55_restOf_6 : decode cX55_restOf 6 = .ok (.iload_n 3, 1) := dk_29 (dk_at dksX55_restOf_0 6 rfl rfl)
theorem dX55_restOf_7 : decode cX55_restOf 7 = .ok (.aload_n 0, 1) := dk_42 (dk_at dksX55_restOf_0 7 rfl rfl)
theorem dX55_restOf_8 : decode cX55_restOf 8 = .ok (.getfield 89, 3) := dk_180 0 89 (dk_at dksX55_restOf_0 8 rfl rfl)
theorem dX55_restOf_11 : decode cX55_restOf 11 = .ok (.if_icmp .ge 54, 3) := dk_162 0 54 (dk_at dksX55_restOf_0 11 rfl rfl)
theorem dX55_restOf_14 : decode cX55_restOf 14 = .ok (.iload_n 1, 1) := dk_27 (dk_at dksX55_restOf_0 14 rfl rfl)
theorem dX55_restOf_15 : decode cX55_restOf 15 = .ok (.iload_n 3, 1) := dk_29 (dk_at dksX55_restOf_0 15 rfl rfl)
theorem dX55_restOf_16 : decode cX55_restOf 16 = .ok (.invokestatic 124, 3) := dk_184 0 124 (dk_at dksX55_restOf_0 16 rfl rfl)
theorem dX55_restOf_19 : decode cX55_restOf 19 = .ok (.ifCond .eq 38, 3) := dk_153 0 38 (dk_at dksX55_restOf_0 19 rfl rfl)
theorem dX55_restOf_22 : decode cX55_restOf 22 = .ok (.aload_n 0, 1) := dk_42 (dk_at dksX55_restOf_0 22 rfl rfl)
theorem dX55_restOf_23 : decode cX55_restOf 23 = .ok (.getfield 7, 3) := dk_180 0 7 (dk_at dksX55_restOf_1 0 rfl rfl)
theorem dX55_restOf_26 : decode cX55_restOf 26 = .ok (.iload_n 3, 1) := dk_29 (dk_at dksX55_restOf_1 3 rfl rfl)
theorem dX55_restOf_27 : decode cX55_restOf 27 = .ok (.iaload, 1) := dk_46 (dk_at dksX55_restOf_1 4 rfl rfl)
theorem dX55_restOf_28 : decode cX55_restOf 28 = .ok (.ifCond .lt 29, 3) := dk_155 0 29 (dk_at dksX55_restOf_1 5 rfl rfl)
theorem dX55_restOf_31 : decode cX55_restOf 31 = .ok (.iload_n 2, 1) := dk_28 (dk_at dksX55_restOf_1 8 rfl rfl)
theorem dX55_restOf_32 : decode cX55_restOf 32 = .ok (.aload_n 0, 1) := dk_42 (dk_at dksX55_restOf_1 9 rfl rfl)
theorem dX55_restOf_33 : decode cX55_restOf 33 = .ok (.getfield 7, 3) := dk_180 0 7 (dk_at dksX55_restOf_1 10 rfl rfl)
theorem dX55_restOf_36 : decode cX55_restOf 36 = .ok (.iload_n 3, 1) := dk_29 (dk_at dksX55_restOf_1 13 rfl rfl)
theorem dX55_restOf_37 : decode cX55_restOf 37 = .ok (.iaload, 1) := dk_46 (dk_at dksX55_restOf_1 14 rfl rfl)
theorem dX55_restOf_38 : decode cX55_restOf 38 = .ok (.invokestatic 124, 3) := dk_184 0 124 (dk_at dksX55_restOf_1 15 rfl rfl)
theorem dX55_restOf_41 : decode cX55_restOf 41 = .ok (.ifCond .eq 16, 3) := dk_153 0 16 (dk_at dksX55_restOf_1 18 rfl rfl)
theorem dX55_restOf_44 : decode cX55_restOf 44 = .ok (.iload_n 2, 1) := dk_28 (dk_at dksX55_restOf_1 21 rfl rfl)
theorem dX55_restOf_45 : decode cX55_restOf 45 = .ok (.iconst 1, 1) := dk_4 (dk_at dksX55_restOf_1 22 rfl rfl)
theorem dX55_restOf_46 : decode cX55_restOf 46 = .ok (.aload_n 0, 1) := dk_42 (dk_at dksX55_restOf_1 23 rfl rfl)
theorem dX55_restOf_47 : decode cX55_restOf 47 = .ok (.getfield 7, 3) := dk_180 0 7 (dk_at dksX55_restOf_2 0 rfl rfl)
theorem dX55_restOf_50 : decode cX55_restOf 50 = .ok (.iload_n 3, 1) := dk_29 (dk_at dksX55_restOf_2 3 rfl rfl)
theorem dX55_restOf_51 : decode cX55_restOf 51 = .ok (.iaload, 1) := dk_46 (dk_at dksX55_restOf_2 4 rfl rfl)
theorem dX55_restOf_52 : decode cX55_restOf 52 = .ok (.ishl, 1) := dk_120 (dk_at dksX55_restOf_2 5 rfl rfl)
theorem dX55_restOf_53 : decode cX55_restOf 53 = .ok (.isub, 1) := dk_100 (dk_at dksX55_restOf_2 6 rfl rfl)
theorem dX55_restOf_54 : decode cX55_restOf 54 = .ok (.goto 4, 3) := dk_167 0 4 (dk_at dksX55_restOf_2 7 rfl rfl)
theorem dX55_restOf_57 : decode cX55_restOf 57 = .ok (.iload_n 2, 1) := dk_28 (dk_at dksX55_restOf_2 10 rfl rfl)
theorem dX55_restOf_58 : decode cX55_restOf 58 = .ok (.istore_n 2, 1) := dk_61 (dk_at dksX55_restOf_2 11 rfl rfl)
theorem dX55_restOf_59 : decode cX55_restOf 59 = .ok (.iinc 3 1, 3) := dk_132 3 1 (dk_at dksX55_restOf_2 12 rfl rfl)
theorem dX55_restOf_62 : decode cX55_restOf 62 = .ok (.goto (-56), 3) := dk_167 255 200 (dk_at dksX55_restOf_2 15 rfl rfl)
theorem dX55_restOf_65 : decode cX55_restOf 65 = .ok (.iload_n 2, 1) := dk_28 (dk_at dksX55_restOf_2 18 rfl rfl)
theorem dX55_restOf_66 : decode cX55_restOf 66 = .ok (.ireturn, 1) := dk_172 (dk_at dksX55_restOf_2 19 rfl rfl)
abbrev cX55_bestFrom : ByteArray := prog_57_method_26_code
def yX55_bestFrom : MethodName := ⟨RX55, "bestFrom", "(IIJ)J"⟩
def dkwX55_bestFrom_8 : List UInt8 := [182, 0, 155, 132, 8, 1, 167, 255, 177, 132, 7, 1, 167, 255, 157, 22, 5, 173]
abbrev dktX55_bestFrom_8 : List UInt8 := dkwX55_bestFrom_8 ++ []
def dkwX55_bestFrom_7 : List UInt8 := [180, 0, 73, 21, 7, 47, 22, 9, 101, 167, 0, 5, 22, 5, 55, 5, 42, 21, 7, 21, 8, 22, 9]
abbrev dktX55_bestFrom_7 : List UInt8 := dkwX55_bestFrom_7 ++ dktX55_bestFrom_8
def dkwX55_bestFrom_6 : List UInt8 := [20, 0, 147, 148, 156, 0, 46, 42, 180, 0, 73, 21, 7, 47, 22, 9, 101, 22, 5, 148, 158, 0, 16, 42]
abbrev dktX55_bestFrom_6 : List UInt8 := dkwX55_bestFrom_6 ++ dktX55_bestFrom_7
def dkwX55_bestFrom_5 : List UInt8 := [42, 180, 0, 89, 162, 0, 76, 42, 180, 0, 70, 16, 10, 21, 7, 104, 21, 8, 96, 47, 55, 9, 22, 9]
abbrev dktX55_bestFrom_5 : List UInt8 := dkwX55_bestFrom_5 ++ dktX55_bestFrom_6
def dkwX55_bestFrom_4 : List UInt8 := [167, 255, 208, 27, 4, 96, 54, 7, 21, 7, 4, 42, 180, 0, 89, 120, 162, 0, 94, 3, 54, 8, 21, 8]
abbrev dktX55_bestFrom_4 : List UInt8 := dkwX55_bestFrom_4 ++ dktX55_bestFrom_5
def dkwX55_bestFrom_3 : List UInt8 := [4, 21, 7, 120, 128, 104, 21, 7, 96, 33, 42, 28, 21, 7, 182, 0, 152, 97, 80, 132, 7, 1]
abbrev dktX55_bestFrom_3 : List UInt8 := dkwX55_bestFrom_3 ++ dktX55_bestFrom_4
def dkwX55_bestFrom_2 : List UInt8 := [42, 180, 0, 89, 162, 0, 45, 42, 27, 21, 7, 182, 0, 149, 153, 0, 29, 42, 180, 0, 70, 16, 10, 27]
abbrev dktX55_bestFrom_2 : List UInt8 := dkwX55_bestFrom_2 ++ dktX55_bestFrom_3
def dkwX55_bestFrom_1 : List UInt8 := [162, 0, 19, 42, 180, 0, 70, 21, 7, 20, 0, 147, 80, 132, 7, 1, 167, 255, 231, 3, 54, 7, 21, 7]
abbrev dktX55_bestFrom_1 : List UInt8 := dkwX55_bestFrom_1 ++ dktX55_bestFrom_2
def dkwX55_bestFrom_0 : List UInt8 := [42, 180, 0, 73, 27, 47, 33, 101, 55, 5, 3, 54, 7, 21, 7, 16, 10, 42, 180, 0, 89, 120]
abbrev dktX55_bestFrom_0 : List UInt8 := dkwX55_bestFrom_0 ++ dktX55_bestFrom_1
theorem dksX55_bestFrom_0 : cX55_bestFrom.data.toList.drop 0 = dktX55_bestFrom_0 := by decide +kernel
theorem dksX55_bestFrom_1 : cX55_bestFrom.data.toList.drop 22 = dktX55_bestFrom_1 := dk_seg dksX55_bestFrom_0 22 rfl rfl
theorem dksX55_bestFrom_2 : cX55_bestFrom.data.toList.drop 46 = dktX55_bestFrom_2 := dk_seg dksX55_bestFrom_1 24 rfl rfl
theorem dksX55_bestFrom_3 : cX55_bestFrom.data.toList.drop 70 = dktX55_bestFrom_3 := dk_seg dksX55_bestFrom_2 24 rfl rfl
theorem dksX55_bestFrom_4 : cX55_bestFrom.data.toList.drop 92 = dktX55_bestFrom_4 := dk_seg dksX55_bestFrom_3 22 rfl rfl
theorem dksX55_bestFrom_5 : cX55_bestFrom.data.toList.drop 116 = dktX55_bestFrom_5 := dk_seg dksX55_bestFrom_4 24 rfl rfl
theorem dksX55_bestFrom_6 : cX55_bestFrom.data.toList.drop 140 = dktX55_bestFrom_6 := dk_seg dksX55_bestFrom_5 24 rfl rfl
theorem dksX55_bestFrom_7 : cX55_bestFrom.data.toList.drop 164 = dktX55_bestFrom_7 := dk_seg dksX55_bestFrom_6 24 rfl rfl
theorem dksX55_bestFrom_8 : cX55_bestFrom.data.toList.drop 187 = dktX55_bestFrom_8 := dk_seg dksX55_bestFrom_7 23 rfl rfl
theorem dX55_bestFrom_0 : decode cX55_bestFrom 0 = .ok (.aload_n 0, 1) := dk_42 (dk_at dksX55_bestFrom_0 0 rfl rfl)
theorem dX55_bestFrom_1 : decode cX55_bestFrom 1 = .ok (.getfield 73, 3) := dk_180 0 73 (dk_at dksX55_bestFrom_0 1 rfl rfl)
theorem dX55_bestFrom_4 : decode cX55_bestFrom 4 = .ok (.iload_n 1, 1) := dk_27 (dk_at dksX55_bestFrom_0 4 rfl rfl)
theorem dX55_bestFrom_5 : decode cX55_bestFrom 5 = .ok (.laload, 1) := dk_47 (dk_at dksX55_bestFrom_0 5 rfl rfl)
theorem dX55_bestFrom_6 : decode cX55_bestFrom 6 = .ok (.lload_n 3, 1) := dk_33 (dk_at dksX55_bestFrom_0 6 rfl rfl)
theorem dX55_bestFrom_7 : decode cX55_bestFrom 7 = .ok (.lsub, 1) := dk_101 (dk_at dksX55_bestFrom_0 7 rfl rfl)
theorem dX55_bestFrom_8 : decode cX55_bestFrom 8 = .ok (.lstore 5, 2) := dk_55 5 (dk_at dksX55_bestFrom_0 8 rfl rfl)
theorem dX55_bestFrom_10 : decode cX55_bestFrom 10 = .ok (.iconst 0, 1) := dk_3 (dk_at dksX55_bestFrom_0 10 rfl rfl)
theorem dX55_bestFrom_11 : decode cX55_bestFrom 11 = .ok (.istore 7, 2) := dk_54 7 (dk_at dksX55_bestFrom_0 11 rfl rfl)
theorem dX55_bestFrom_13 : decode cX55_bestFrom 13 = .ok (.iload 7, 2) := dk_21 7 (dk_at dksX55_bestFrom_0 13 rfl rfl)
theorem dX55_bestFrom_15 : decode cX55_bestFrom 15 = .ok (.bipush 10, 2) := dk_16 10 (dk_at dksX55_bestFrom_0 15 rfl rfl)
theorem dX55_bestFrom_17 : decode cX55_bestFrom 17 = .ok (.aload_n 0, 1) := dk_42 (dk_at dksX55_bestFrom_0 17 rfl rfl)
theorem dX55_bestFrom_18 : decode cX55_bestFrom 18 = .ok (.getfield 89, 3) := dk_180 0 89 (dk_at dksX55_bestFrom_0 18 rfl rfl)
theorem dX55_bestFrom_21 : decode cX55_bestFrom 21 = .ok (.ishl, 1) := dk_120 (dk_at dksX55_bestFrom_0 21 rfl rfl)
theorem dX55_bestFrom_22 : decode cX55_bestFrom 22 = .ok (.if_icmp .ge 19, 3) := dk_162 0 19 (dk_at dksX55_bestFrom_1 0 rfl rfl)
theorem dX55_bestFrom_25 : decode cX55_bestFrom 25 = .ok (.aload_n 0, 1) := dk_42 (dk_at dksX55_bestFrom_1 3 rfl rfl)
theorem dX55_bestFrom_26 : decode cX55_bestFrom 26 = .ok (.getfield 70, 3) := dk_180 0 70 (dk_at dksX55_bestFrom_1 4 rfl rfl)
theorem dX55_bestFrom_29 : decode cX55_bestFrom 29 = .ok (.iload 7, 2) := dk_21 7 (dk_at dksX55_bestFrom_1 7 rfl rfl)
theorem dX55_bestFrom_31 : decode cX55_bestFrom 31 = .ok (.ldc2_w 147, 3) := dk_20 0 147 (dk_at dksX55_bestFrom_1 9 rfl rfl)
theorem dX55_bestFrom_34 : decode cX55_bestFrom 34 = .ok (.lastore, 1) := dk_80 (dk_at dksX55_bestFrom_1 12 rfl rfl)
theorem dX55_bestFrom_35 : decode cX55_bestFrom 35 = .ok (.iinc 7 1, 3) := dk_132 7 1 (dk_at dksX55_bestFrom_1 13 rfl rfl)
theorem dX55_bestFrom_38 : decode cX55_bestFrom 38 = .ok (.goto (-25), 3) := dk_167 255 231 (dk_at dksX55_bestFrom_1 16 rfl rfl)
theorem dX55_bestFrom_41 : decode cX55_bestFrom 41 = .ok (.iconst 0, 1) := dk_3 (dk_at dksX55_bestFrom_1 19 rfl rfl)
theorem dX55_bestFrom_42 : decode cX55_bestFrom 42 = .ok (.istore 7, 2) := dk_54 7 (dk_at dksX55_bestFrom_1 20 rfl rfl)
theorem dX55_bestFrom_44 : decode cX55_bestFrom 44 = .ok (.iload 7, 2) := dk_21 7 (dk_at dksX55_bestFrom_1 22 rfl rfl)
theorem dX55_bestFrom_46 : decode cX55_bestFrom 46 = .ok (.aload_n 0, 1) := dk_42 (dk_at dksX55_bestFrom_2 0 rfl rfl)
theorem dX55_bestFrom_47 : decode cX55_bestFrom 47 = .ok (.getfield 89, 3) := dk_180 0 89 (dk_at dksX55_bestFrom_2 1 rfl rfl)
theorem dX55_bestFrom_50 : decode cX55_bestFrom 50 = .ok (.if_icmp .ge 45, 3) := dk_162 0 45 (dk_at dksX55_bestFrom_2 4 rfl rfl)
theorem dX55_bestFrom_53 : decode cX55_bestFrom 53 = .ok (.aload_n 0, 1) := dk_42 (dk_at dksX55_bestFrom_2 7 rfl rfl)
theorem dX55_bestFrom_54 : decode cX55_bestFrom 54 = .ok (.iload_n 1, 1) := dk_27 (dk_at dksX55_bestFrom_2 8 rfl rfl)
theorem dX55_bestFrom_55 : decode cX55_bestFrom 55 = .ok (.iload 7, 2) := dk_21 7 (dk_at dksX55_bestFrom_2 9 rfl rfl)
theorem dX55_bestFrom_57 : decode cX55_bestFrom 57 = .ok (.invokevirtual 149, 3) := dk_182 0 149 (dk_at dksX55_bestFrom_2 11 rfl rfl)
theorem dX55_bestFrom_60 : decode cX55_bestFrom 60 = .ok (.ifCond .eq 29, 3) := dk_153 0 29 (dk_at dksX55_bestFrom_2 14 rfl rfl)
theorem dX55_bestFrom_63 : decode cX55_bestFrom 63 = .ok (.aload_n 0, 1) := dk_42 (dk_at dksX55_bestFrom_2 17 rfl rfl)
theorem dX55_bestFrom_64 : decode cX55_bestFrom 64 = .ok (.getfield 70, 3) := dk_180 0 70 (dk_at dksX55_bestFrom_2 18 rfl rfl)
theorem dX55_bestFrom_67 : decode cX55_bestFrom 67 = .ok (.bipush 10, 2) := dk_16 10 (dk_at dksX55_bestFrom_2 21 rfl rfl)
theorem dX55_bestFrom_69 : decode cX55_bestFrom 69 = .ok (.iload_n 1, 1) := dk_27 (dk_at dksX55_bestFrom_2 23 rfl rfl)
theorem dX55_bestFrom_70 : decode cX55_bestFrom 70 = .ok (.iconst 1, 1) := dk_4 (dk_at dksX55_bestFrom_3 0 rfl rfl)
theorem dX55_bestFrom_71 : decode cX55_bestFrom 71 = .ok (.iload 7, 2) := dk_21 7 (dk_at dksX55_bestFrom_3 1 rfl rfl)
theorem dX55_bestFrom_73 : decode cX55_bestFrom 73 = .ok (.ishl, 1) := dk_120 (dk_at dksX55_bestFrom_3 3 rfl rfl)
theorem dX55_bestFrom_74 : decode cX55_bestFrom 74 = .ok (.ior, 1) := dk_128 (dk_at dksX55_bestFrom_3 4 rfl rfl)
theorem dX55_bestFrom_75 : decode cX55_bestFrom 75 = .ok (.imul, 1) := dk_104 (dk_at dksX55_bestFrom_3 5 rfl rfl)
theorem dX55_bestFrom_76 : decode cX55_bestFrom 76 = .ok (.iload 7, 2) := dk_21 7 (dk_at dksX55_bestFrom_3 6 rfl rfl)
theorem dX55_bestFrom_78 : decode cX55_bestFrom 78 = .ok (.iadd, 1) := dk_96 (dk_at dksX55_bestFrom_3 8 rfl rfl)
theorem dX55_bestFrom_79 : decode cX55_bestFrom 79 = .ok (.lload_n 3, 1) := dk_33 (dk_at dksX55_bestFrom_3 9 rfl rfl)
theorem dX55_bestFrom_80 : decode cX55_bestFrom 80 = .ok (.aload_n 0, 1) := dk_42 (dk_at dksX55_bestFrom_3 10 rfl rfl)
theorem dX55_bestFrom_81 : decode cX55_bestFrom 81 = .ok (.iload_n 2, 1) := dk_28 (dk_at dksX55_bestFrom_3 11 rfl rfl)
theorem dX55_bestFrom_82 : decode cX55_bestFrom 82 = .ok (.iload 7, 2) := dk_21 7 (dk_at dksX55_bestFrom_3 12 rfl rfl)
theorem dX55_bestFrom_84 : decode cX55_bestFrom 84 = .ok (.invokevirtual 152, 3) := dk_182 0 152 (dk_at dksX55_bestFrom_3 14 rfl rfl)
theorem dX55_bestFrom_87 : decode cX55_bestFrom 87 = .ok (.ladd, 1) := dk_97 (dk_at dksX55_bestFrom_3 17 rfl rfl)
theorem dX55_bestFrom_88 : decode cX55_bestFrom 88 = .ok (.lastore, 1) := dk_80 (dk_at dksX55_bestFrom_3 18 rfl rfl)
theorem dX55_bestFrom_89 : decode cX55_bestFrom 89 = .ok (.iinc 7 1, 3) := dk_132 7 1 (dk_at dksX55_bestFrom_3 19 rfl rfl)
theorem dX55_bestFrom_92 : decode cX55_bestFrom 92 = .ok (.goto (-48), 3) := dk_167 255 208 (dk_at dksX55_bestFrom_4 0 rfl rfl)
theorem dX55_bestFrom_95 : decode cX55_bestFrom 95 = .ok (.iload_n 1, 1) := dk_27 (dk_at dksX55_bestFrom_4 3 rfl rfl)
theorem dX55_bestFrom_96 : decode cX55_bestFrom 96 = .ok (.iconst 1, 1) := dk_4 (dk_at dksX55_bestFrom_4 4 rfl rfl)
theorem dX55_bestFrom_97 : decode cX55_bestFrom 97 = .ok (.iadd, 1) := dk_96 (dk_at dksX55_bestFrom_4 5 rfl rfl)
theorem dX55_bestFrom_98 : decode cX55_bestFrom 98 = .ok (.istore 7, 2) := dk_54 7 (dk_at dksX55_bestFrom_4 6 rfl rfl)
theorem dX55_bestFrom_100 : decode cX55_bestFrom 100 = .ok (.iload 7, 2) := dk_21 7 (dk_at dksX55_bestFrom_4 8 rfl rfl)
theorem dX55_bestFrom_102 : decode cX55_bestFrom 102 = .ok (.iconst 1, 1) := dk_4 (dk_at dksX55_bestFrom_4 10 rfl rfl)
theorem dX55_bestFrom_103 : decode cX55_bestFrom 103 = .ok (.aload_n 0, 1) := dk_42 (dk_at dksX55_bestFrom_4 11 rfl rfl)
theorem dX55_bestFrom_104 : decode cX55_bestFrom 104 = .ok (.getfield 89, 3) := dk_180 0 89 (dk_at dksX55_bestFrom_4 12 rfl rfl)
theorem dX55_bestFrom_107 : decode cX55_bestFrom 107 = .ok (.ishl, 1) := dk_120 (dk_at dksX55_bestFrom_4 15 rfl rfl)
theorem dX55_bestFrom_108 : decode cX55_bestFrom 108 = .ok (.if_icmp .ge 94, 3) := dk_162 0 94 (dk_at dksX55_bestFrom_4 16 rfl rfl)
theorem dX55_bestFrom_111 : decode cX55_bestFrom 111 = .ok (.iconst 0, 1) := dk_3 (dk_at dksX55_bestFrom_4 19 rfl rfl)
theorem dX55_bestFrom_112 : decode cX55_bestFrom 112 = .ok (.istore 8, 2) := dk_54 8 (dk_at dksX55_bestFrom_4 20 rfl rfl)
theorem dX55_bestFrom_114 : decode cX55_bestFrom 114 = .ok (.iload 8, 2) := dk_21 8 (dk_at dksX55_bestFrom_4 22 rfl rfl)
theorem dX55_bestFrom_116 : decode cX55_bestFrom 116 = .ok (.aload_n 0, 1) := dk_42 (dk_at dksX55_bestFrom_5 0 rfl rfl)
theorem dX55_bestFrom_117 : decode cX55_bestFrom 117 = .ok (.getfield 89, 3) := dk_180 0 89 (dk_at dksX55_bestFrom_5 1 rfl rfl)
theorem dX55_bestFrom_120 : decode cX55_bestFrom 120 = .ok (.if_icmp .ge 76, 3) := dk_162 0 76 (dk_at dksX55_bestFrom_5 4 rfl rfl)
theorem dX55_bestFrom_123 : decode cX55_bestFrom 123 = .ok (.aload_n 0, 1) := dk_42 (dk_at dksX55_bestFrom_5 7 rfl rfl)
theorem dX55_bestFrom_124 : decode cX55_bestFrom 124 = .ok (.getfield 70, 3) := dk_180 0 70 (dk_at dksX55_bestFrom_5 8 rfl rfl)
theorem dX55_bestFrom_127 : decode cX55_bestFrom 127 = .ok (.bipush 10, 2) := dk_16 10 (dk_at dksX55_bestFrom_5 11 rfl rfl)
theorem dX55_bestFrom_129 : decode cX55_bestFrom 129 = .ok (.iload 7, 2) := dk_21 7 (dk_at dksX55_bestFrom_5 13 rfl rfl)
theorem dX55_bestFrom_131 : decode cX55_bestFrom 131 = .ok (.imul, 1) := dk_104 (dk_at dksX55_bestFrom_5 15 rfl rfl)
theorem dX55_bestFrom_132 : decode cX55_bestFrom 132 = .ok (.iload 8, 2) := dk_21 8 (dk_at dksX55_bestFrom_5 16 rfl rfl)
theorem dX55_bestFrom_134 : decode cX55_bestFrom 134 = .ok (.iadd, 1) := dk_96 (dk_at dksX55_bestFrom_5 18 rfl rfl)
theorem dX55_bestFrom_135 : decode cX55_bestFrom 135 = .ok (.laload, 1) := dk_47 (dk_at dksX55_bestFrom_5 19 rfl rfl)
theorem dX55_bestFrom_136 : decode cX55_bestFrom 136 = .ok (.lstore 9, 2) := dk_55 9 (dk_at dksX55_bestFrom_5 20 rfl rfl)
theorem dX55_bestFrom_138 : decode cX55_bestFrom 138 = .ok (.lload 9, 2) := dk_22 9 (dk_at dksX55_bestFrom_5 22 rfl rfl)
theorem dX55_bestFrom_140 : decode cX55_bestFrom 140 = .ok (.ldc2_w 147, 3) := dk_20 0 147 (dk_at dksX55_bestFrom_6 0 rfl rfl)
theorem dX55_bestFrom_143 : decode cX55_bestFrom 143 = .ok (.lcmp, 1) := dk_148 (dk_at dksX55_bestFrom_6 3 rfl rfl)
theorem dX55_bestFrom_144 : decode cX55_bestFrom 144 = .ok (.ifCond .ge 46, 3) := dk_156 0 46 (dk_at dksX55_bestFrom_6 4 rfl rfl)
theorem dX55_bestFrom_147 : decode cX55_bestFrom 147 = .ok (.aload_n 0, 1) := dk_42 (dk_at dksX55_bestFrom_6 7 rfl rfl)
theorem dX55_bestFrom_148 : decode cX55_bestFrom 148 = .ok (.getfield 73, 3) := dk_180 0 73 (dk_at dksX55_bestFrom_6 8 rfl rfl)
theorem dX55_bestFrom_151 : decode cX55_bestFrom 151 = .ok (.iload 7, 2) := dk_21 7 (dk_at dksX55_bestFrom_6 11 rfl rfl)
theorem dX55_bestFrom_153 : decode cX55_bestFrom 153 = .ok (.laload, 1) := dk_47 (dk_at dksX55_bestFrom_6 13 rfl rfl)
theorem dX55_bestFrom_154 : decode cX55_bestFrom 154 = .ok (.lload 9, 2) := dk_22 9 (dk_at dksX55_bestFrom_6 14 rfl rfl)
theorem dX55_bestFrom_156 : decode cX55_bestFrom 156 = .ok (.lsub, 1) := dk_101 (dk_at dksX55_bestFrom_6 16 rfl rfl)
theorem dX55_bestFrom_157 : decode cX55_bestFrom 157 = .ok (.lload 5, 2) := dk_22 5 (dk_at dksX55_bestFrom_6 17 rfl rfl)
theorem dX55_bestFrom_159 : decode cX55_bestFrom 159 = .ok (.lcmp, 1) := dk_148 (dk_at dksX55_bestFrom_6 19 rfl rfl)
theorem dX55_bestFrom_160 : decode cX55_bestFrom 160 = .ok (.ifCond .le 16, 3) := dk_158 0 16 (dk_at dksX55_bestFrom_6 20 rfl rfl)
theorem dX55_bestFrom_163 : decode cX55_bestFrom 163 = .ok (.aload_n 0, 1) := dk_42 (dk_at dksX55_bestFrom_6 23 rfl rfl)
theorem dX55_bestFrom_164 : decode cX55_bestFrom 164 = .ok (.getfield 73, 3) := dk_180 0 73 (dk_at dksX55_bestFrom_7 0 rfl rfl)
theorem dX55_bestFrom_167 : decode cX55_bestFrom 167 = .ok (.iload 7, 2) := dk_21 7 (dk_at dksX55_bestFrom_7 3 rfl rfl)
theorem dX55_bestFrom_169 : decode cX55_bestFrom 169 = .ok (.laload, 1) := dk_47 (dk_at dksX55_bestFrom_7 5 rfl rfl)
theorem dX55_bestFrom_170 : decode cX55_bestFrom 170 = .ok (.lload 9, 2) := dk_22 9 (dk_at dksX55_bestFrom_7 6 rfl rfl)
theorem dX55_bestFrom_172 : decode cX55_bestFrom 172 = .ok (.lsub, 1) := dk_101 (dk_at dksX55_bestFrom_7 8 rfl rfl)
theorem dX55_bestFrom_173 : decode cX55_bestFrom 173 = .ok (.goto 5, 3) := dk_167 0 5 (dk_at dksX55_bestFrom_7 9 rfl rfl)
theorem dX55_bestFrom_176 : decode cX55_bestFrom 176 = .ok (.lload 5, 2) := dk_22 5 (dk_at dksX55_bestFrom_7 12 rfl rfl)
theorem dX55_bestFrom_178 : decode cX55_bestFrom 178 = .ok (.lstore 5, 2) := dk_55 5 (dk_at dksX55_bestFrom_7 14 rfl rfl)
theorem dX55_bestFrom_180 : decode cX55_bestFrom 180 = .ok (.aload_n 0, 1) := dk_42 (dk_at dksX55_bestFrom_7 16 rfl rfl)
theorem dX55_bestFrom_181 : decode cX55_bestFrom 181 = .ok (.iload 7, 2) := dk_21 7 (dk_at dksX55_bestFrom_7 17 rfl rfl)
theorem dX55_bestFrom_183 : decode cX55_bestFrom 183 = .ok (.iload 8, 2) := dk_21 8 (dk_at dksX55_bestFrom_7 19 rfl rfl)
theorem dX55_bestFrom_185 : decode cX55_bestFrom 185 = .ok (.lload 9, 2) := dk_22 9 (dk_at dksX55_bestFrom_7 21 rfl rfl)
theorem dX55_bestFrom_187 : decode cX55_bestFrom 187 = .ok (.invokevirtual 155, 3) := dk_182 0 155 (dk_at dksX55_bestFrom_8 0 rfl rfl)
theorem dX55_bestFrom_190 : decode cX55_bestFrom 190 = .ok (.iinc 8 1, 3) := dk_132 8 1 (dk_at dksX55_bestFrom_8 3 rfl rfl)
theorem dX55_bestFrom_193 : decode cX55_bestFrom 193 = .ok (.goto (-79), 3) := dk_167 255 177 (dk_at dksX55_bestFrom_8 6 rfl rfl)
theorem dX55_bestFrom_196 : decode cX55_bestFrom 196 = .ok (.iinc 7 1, 3) := dk_132 7 1 (dk_at dksX55_bestFrom_8 9 rfl rfl)
theorem dX55_bestFrom_199 : decode cX55_bestFrom 199 = .ok (.goto (-99), 3) := dk_167 255 157 (dk_at dksX55_bestFrom_8 12 rfl rfl)
theorem dX55_bestFrom_202 : decode cX55_bestFrom 202 = .ok (.lload 5, 2) := dk_22 5 (dk_at dksX55_bestFrom_8 15 rfl rfl)
theorem dX55_bestFrom_204 : decode cX55_bestFrom 204 = .ok (.lreturn, 1) := dk_173 (dk_at dksX55_bestFrom_8 17 rfl rfl)
abbrev cX55_canDo : ByteArray := prog_57_method_24_code
def yX55_canDo : MethodName := ⟨RX55, "canDo", "(II)Z"⟩
def dkwX55_canDo_1 : List UInt8 := [160, 0, 7, 4, 167, 0, 4, 3, 172]
abbrev dktX55_canDo_1 : List UInt8 := dkwX55_canDo_1 ++ []
def dkwX55_canDo_0 : List UInt8 := [27, 28, 184, 0, 124, 154, 0, 24, 42, 180, 0, 67, 28, 46, 27, 126, 42, 180, 0, 67, 28, 46]
abbrev dktX55_canDo_0 : List UInt8 := dkwX55_canDo_0 ++ dktX55_canDo_1
theorem dksX55_canDo_0 : cX55_canDo.data.toList.drop 0 = dktX55_canDo_0 := by decide +kernel
theorem dksX55_canDo_1 : cX55_canDo.data.toList.drop 22 = dktX55_canDo_1 := dk_seg dksX55_canDo_0 22 rfl rfl
theorem dX55_canDo_0 : decode cX55_canDo 0 = .ok (.iload_n 1, 1) := dk_27 (dk_at dksX55_canDo_0 0 rfl rfl)
theorem dX55_canDo_1 : decode cX55_canDo 1 = .ok (.iload_n 2, 1) := dk_28 (dk_at dksX55_canDo_0 1 rfl rfl)
theorem dX55_canDo_2 : decode cX55_canDo 2 = .ok (.invokestatic 124, 3) := dk_184 0 124 (dk_at dksX55_canDo_0 2 rfl rfl)
theorem dX55_canDo_5 : decode cX55_canDo 5 = .ok (.ifCond .ne 24, 3) := dk_154 0 24 (dk_at dksX55_canDo_0 5 rfl rfl)
theorem dX55_canDo_8 : decode cX55_canDo 8 = .ok (.aload_n 0, 1) := dk_42 (dk_at dksX55_canDo_0 8 rfl rfl)
theorem dX55_canDo_9 : decode cX55_canDo 9 = .ok (.getfield 67, 3) := dk_180 0 67 (dk_at dksX55_canDo_0 9 rfl rfl)
theorem dX55_canDo_12 : decode cX55_canDo 12 = .ok (.iload_n 2, 1) := dk_28 (dk_at dksX55_canDo_0 12 rfl rfl)
theorem dX55_canDo_13 : decode cX55_canDo 13 = .ok (.iaload, 1) := dk_46 (dk_at dksX55_canDo_0 13 rfl rfl)
theorem dX55_canDo_14 : decode cX55_canDo 14 = .ok (.iload_n 1, 1) := dk_27 (dk_at dksX55_canDo_0 14 rfl rfl)
theorem dX55_canDo_15 : decode cX55_canDo 15 = .ok (.iand, 1) := dk_126 (dk_at dksX55_canDo_0 15 rfl rfl)
theorem dX55_canDo_16 : decode cX55_canDo 16 = .ok (.aload_n 0, 1) := dk_42 (dk_at dksX55_canDo_0 16 rfl rfl)
theorem dX55_canDo_17 : decode cX55_canDo 17 = .ok (.getfield 67, 3) := dk_180 0 67 (dk_at dksX55_canDo_0 17 rfl rfl)
theorem dX55_canDo_20 : decode cX55_canDo 20 = .ok (.iload_n 2, 1) := dk_28 (dk_at dksX55_canDo_0 20 rfl rfl)
theorem dX55_canDo_21 : decode cX55_canDo 21 = .ok (.iaload, 1) := dk_46 (dk_at dksX55_canDo_0 21 rfl rfl)
theorem dX55_canDo_22 : decode cX55_canDo 22 = .ok (.if_icmp .ne 7, 3) := dk_160 0 7 (dk_at dksX55_canDo_1 0 rfl rfl)
theorem dX55_canDo_25 : decode cX55_canDo 25 = .ok (.iconst 1, 1) := dk_4 (dk_at dksX55_canDo_1 3 rfl rfl)
theorem dX55_canDo_26 : decode cX55_canDo 26 = .ok (.goto 4, 3) := dk_167 0 4 (dk_at dksX55_canDo_1 4 rfl rfl)
theorem dX55_canDo_29 : decode cX55_canDo 29 = .ok (.iconst 0, 1) := dk_3 (dk_at dksX55_canDo_1 7 rfl rfl)
theorem dX55_canDo_30 : decode cX55_canDo 30 = .ok (.ireturn, 1) := dk_172 (dk_at dksX55_canDo_1 8 rfl rfl)
abbrev cX55_stepCost : ByteArray := prog_57_method_23_code
def yX55_stepCost : MethodName := ⟨RX55, "stepCost", "(II)J"⟩
def dkwX55_stepCost_4 : List UInt8 := [97, 66, 20, 0, 133, 33, 105, 173]
abbrev dktX55_stepCost_4 : List UInt8 := dkwX55_stepCost_4 ++ []
def dkwX55_stepCost_3 : List UInt8 := [167, 0, 24, 42, 180, 0, 33, 16, 6, 42, 180, 0, 16, 27, 46, 104, 42, 180, 0, 16, 28, 46, 96, 47]
abbrev dktX55_stepCost_3 : List UInt8 := dkwX55_stepCost_3 ++ dktX55_stepCost_4
def dkwX55_stepCost_2 : List UInt8 := [28, 46, 96, 47, 97, 66, 33, 42, 180, 0, 16, 27, 46, 42, 180, 0, 16, 28, 46, 160, 0, 7, 9]
abbrev dktX55_stepCost_2 : List UInt8 := dkwX55_stepCost_2 ++ dktX55_stepCost_3
def dkwX55_stepCost_1 : List UInt8 := [160, 0, 7, 9, 167, 0, 24, 42, 180, 0, 30, 16, 6, 42, 180, 0, 13, 27, 46, 104, 42, 180, 0, 13]
abbrev dktX55_stepCost_1 : List UInt8 := dkwX55_stepCost_1 ++ dktX55_stepCost_2
def dkwX55_stepCost_0 : List UInt8 := [42, 180, 0, 19, 28, 47, 66, 27, 155, 0, 89, 33, 42, 180, 0, 13, 27, 46, 42, 180, 0, 13, 28, 46]
abbrev dktX55_stepCost_0 : List UInt8 := dkwX55_stepCost_0 ++ dktX55_stepCost_1
theorem dksX55_stepCost_0 : cX55_stepCost.data.toList.drop 0 = dktX55_stepCost_0 := by decide +kernel
theorem dksX55_stepCost_1 : cX55_stepCost.data.toList.drop 24 = dktX55_stepCost_1 := dk_seg dksX55_stepCost_0 24 rfl rfl
theorem dksX55_stepCost_2 : cX55_stepCost.data.toList.drop 48 = dktX55_stepCost_2 := dk_seg dksX55_stepCost_1 24 rfl rfl
theorem dksX55_stepCost_3 : cX55_stepCost.data.toList.drop 71 = dktX55_stepCost_3 := dk_seg dksX55_stepCost_2 23 rfl rfl
theorem dksX55_stepCost_4 : cX55_stepCost.data.toList.drop 95 = dktX55_stepCost_4 := dk_seg dksX55_stepCost_3 24 rfl rfl
theorem dX55_stepCost_0 : decode cX55_stepCost 0 = .ok (.aload_n 0, 1) := dk_42 (dk_at dksX55_stepCost_0 0 rfl rfl)
theorem dX55_stepCost_1 : decode cX55_stepCost 1 = .ok (.getfield 19, 3) := dk_180 0 19 (dk_at dksX55_stepCost_0 1 rfl rfl)
theorem dX55_stepCost_4 : decode cX55_stepCost 4 = .ok (.iload_n 2, 1) := dk_28 (dk_at dksX55_stepCost_0 4 rfl rfl)
theorem dX55_stepCost_5 : decode cX55_stepCost 5 = .ok (.laload, 1) := dk_47 (dk_at dksX55_stepCost_0 5 rfl rfl)
theorem dX55_stepCost_6 : decode cX55_stepCost 6 = .ok (.lstore_n 3, 1) := dk_66 (dk_at dksX55_stepCost_0 6 rfl rfl)
theorem dX55_stepCost_7 : decode cX55_stepCost 7 = .ok (.iload_n 1, 1) := dk_27 (dk_at dksX55_stepCost_0 7 rfl rfl)
theorem dX55_stepCost_8 : decode cX55_stepCost 8 = .ok (.ifCond .lt 89, 3) := dk_155 0 89 (dk_at dksX55_stepCost_0 8 rfl rfl)
theorem dX55_stepCost_11 : decode cX55_stepCost 11 = .ok (.lload_n 3, 1) := dk_33 (dk_at dksX55_stepCost_0 11 rfl rfl)
theorem dX55_stepCost_12 : decode cX55_stepCost 12 = .ok (.aload_n 0, 1) := dk_42 (dk_at dksX55_stepCost_0 12 rfl rfl)
theorem dX55_stepCost_13 : decode cX55_stepCost 13 = .ok (.getfield 13, 3) := dk_180 0 13 (dk_at dksX55_stepCost_0 13 rfl rfl)
theorem dX55_stepCost_16 : decode cX55_stepCost 16 = .ok (.iload_n 1, 1) := dk_27 (dk_at dksX55_stepCost_0 16 rfl rfl)
theorem dX55_stepCost_17 : decode cX55_stepCost 17 = .ok (.iaload, 1) := dk_46 (dk_at dksX55_stepCost_0 17 rfl rfl)
theorem dX55_stepCost_18 : decode cX55_stepCost 18 = .ok (.aload_n 0, 1) := dk_42 (dk_at dksX55_stepCost_0 18 rfl rfl)
theorem dX55_stepCost_19 : decode cX55_stepCost 19 = .ok (.getfield 13, 3) := dk_180 0 13 (dk_at dksX55_stepCost_0 19 rfl rfl)
theorem dX55_stepCost_22 : decode cX55_stepCost 22 = .ok (.iload_n 2, 1) := dk_28 (dk_at dksX55_stepCost_0 22 rfl rfl)
theorem dX55_stepCost_23 : decode cX55_stepCost 23 = .ok (.iaload, 1) := dk_46 (dk_at dksX55_stepCost_0 23 rfl rfl)
theorem dX55_stepCost_24 : decode cX55_stepCost 24 = .ok (.if_icmp .ne 7, 3) := dk_160 0 7 (dk_at dksX55_stepCost_1 0 rfl rfl)
theorem dX55_stepCost_27 : decode cX55_stepCost 27 = .ok (.lconst 0, 1) := dk_9 (dk_at dksX55_stepCost_1 3 rfl rfl)
theorem dX55_stepCost_28 : decode cX55_stepCost 28 = .ok (.goto 24, 3) := dk_167 0 24 (dk_at dksX55_stepCost_1 4 rfl rfl)
theorem dX55_stepCost_31 : decode cX55_stepCost 31 = .ok (.aload_n 0, 1) := dk_42 (dk_at dksX55_stepCost_1 7 rfl rfl)
theorem dX55_stepCost_32 : decode cX55_stepCost 32 = .ok (.getfield 30, 3) := dk_180 0 30 (dk_at dksX55_stepCost_1 8 rfl rfl)
theorem dX55_stepCost_35 : decode cX55_stepCost 35 = .ok (.bipush 6, 2) := dk_16 6 (dk_at dksX55_stepCost_1 11 rfl rfl)
theorem dX55_stepCost_37 : decode cX55_stepCost 37 = .ok (.aload_n 0, 1) := dk_42 (dk_at dksX55_stepCost_1 13 rfl rfl)
theorem dX55_stepCost_38 : decode cX55_stepCost 38 = .ok (.getfield 13, 3) := dk_180 0 13 (dk_at dksX55_stepCost_1 14 rfl rfl)
theorem dX55_stepCost_41 : decode cX55_stepCost 41 = .ok (.iload_n 1, 1) := dk_27 (dk_at dksX55_stepCost_1 17 rfl rfl)
theorem dX55_stepCost_42 : decode cX55_stepCost 42 = .ok (.iaload, 1) := dk_46 (dk_at dksX55_stepCost_1 18 rfl rfl)
theorem dX55_stepCost_43 : decode cX55_stepCost 43 = .ok (.imul, 1) := dk_104 (dk_at dksX55_stepCost_1 19 rfl rfl)
theorem dX55_stepCost_44 : decode cX55_stepCost 44 = .ok (.aload_n 0, 1) := dk_42 (dk_at dksX55_stepCost_1 20 rfl rfl)
theorem dX55_stepCost_45 : decode cX55_stepCost 45 = .ok (.getfield 13, 3) := dk_180 0 13 (dk_at dksX55_stepCost_1 21 rfl rfl)
theorem dX55_stepCost_48 : decode cX55_stepCost 48 = .ok (.iload_n 2, 1) := dk_28 (dk_at dksX55_stepCost_2 0 rfl rfl)
theorem dX55_stepCost_49 : decode cX55_stepCost 49 = .ok (.iaload, 1) := dk_46 (dk_at dksX55_stepCost_2 1 rfl rfl)
theorem dX55_stepCost_50 : decode cX55_stepCost 50 = .ok (.iadd, 1) := dk_96 (dk_at dksX55_stepCost_2 2 rfl rfl)
theorem dX55_stepCost_51 : decode cX55_stepCost 51 = .ok (.laload, 1) := dk_47 (dk_at dksX55_stepCost_2 3 rfl rfl)
theorem dX55_stepCost_52 : decode cX55_stepCost 52 = .ok (.ladd, 1) := dk_97 (dk_at dksX55_stepCost_2 4 rfl rfl)
theorem dX55_stepCost_53 : decode cX55_stepCost 53 = .ok (.lstore_n 3, 1) := dk_66 (dk_at dksX55_stepCost_2 5 rfl rfl)
theorem dX55_stepCost_54 : decode cX55_stepCost 54 = .ok (.lload_n 3, 1) := dk_33 (dk_at dksX55_stepCost_2 6 rfl rfl)
theorem dX55_stepCost_55 : decode cX55_stepCost 55 = .ok (.aload_n 0, 1) := dk_42 (dk_at dksX55_stepCost_2 7 rfl rfl)
theorem dX55_stepCost_56 : decode cX55_stepCost 56 = .ok (.getfield 16, 3) := dk_180 0 16 (dk_at dksX55_stepCost_2 8 rfl rfl)
theorem dX55_stepCost_59 : decode cX55_stepCost 59 = .ok (.iload_n 1, 1) := dk_27 (dk_at dksX55_stepCost_2 11 rfl rfl)
theorem dX55_stepCost_60 : decode cX55_stepCost 60 = .ok (.iaload, 1) := dk_46 (dk_at dksX55_stepCost_2 12 rfl rfl)
theorem dX55_stepCost_61 : decode cX55_stepCost 61 = .ok (.aload_n 0, 1) := dk_42 (dk_at dksX55_stepCost_2 13 rfl rfl)
theorem dX55_stepCost_62 : decode cX55_stepCost 62 = .ok (.getfield 16, 3) := dk_180 0 16 (dk_at dksX55_stepCost_2 14 rfl rfl)
theorem dX55_stepCost_65 : decode cX55_stepCost 65 = .ok (.iload_n 2, 1) := dk_28 (dk_at dksX55_stepCost_2 17 rfl rfl)
theorem dX55_stepCost_66 : decode cX55_stepCost 66 = .ok (.iaload, 1) := dk_46 (dk_at dksX55_stepCost_2 18 rfl rfl)
theorem dX55_stepCost_67 : decode cX55_stepCost 67 = .ok (.if_icmp .ne 7, 3) := dk_160 0 7 (dk_at dksX55_stepCost_2 19 rfl rfl)
theorem dX55_stepCost_70 : decode cX55_stepCost 70 = .ok (.lconst 0, 1) := dk_9 (dk_at dksX55_stepCost_2 22 rfl rfl)
theorem dX55_stepCost_71 : decode cX55_stepCost 71 = .ok (.goto 24, 3) := dk_167 0 24 (dk_at dksX55_stepCost_3 0 rfl rfl)
theorem dX55_stepCost_74 : decode cX55_stepCost 74 = .ok (.aload_n 0, 1) := dk_42 (dk_at dksX55_stepCost_3 3 rfl rfl)
theorem dX55_stepCost_75 : decode cX55_stepCost 75 = .ok (.getfield 33, 3) := dk_180 0 33 (dk_at dksX55_stepCost_3 4 rfl rfl)
theorem dX55_stepCost_78 : decode cX55_stepCost 78 = .ok (.bipush 6, 2) := dk_16 6 (dk_at dksX55_stepCost_3 7 rfl rfl)
theorem dX55_stepCost_80 : decode cX55_stepCost 80 = .ok (.aload_n 0, 1) := dk_42 (dk_at dksX55_stepCost_3 9 rfl rfl)
theorem dX55_stepCost_81 : decode cX55_stepCost 81 = .ok (.getfield 16, 3) := dk_180 0 16 (dk_at dksX55_stepCost_3 10 rfl rfl)
theorem dX55_stepCost_84 : decode cX55_stepCost 84 = .ok (.iload_n 1, 1) := dk_27 (dk_at dksX55_stepCost_3 13 rfl rfl)
theorem dX55_stepCost_85 : decode cX55_stepCost 85 = .ok (.iaload, 1) := dk_46 (dk_at dksX55_stepCost_3 14 rfl rfl)
theorem dX55_stepCost_86 : decode cX55_stepCost 86 = .ok (.imul, 1) := dk_104 (dk_at dksX55_stepCost_3 15 rfl rfl)
theorem dX55_stepCost_87 : decode cX55_stepCost 87 = .ok (.aload_n 0, 1) := dk_42 (dk_at dksX55_stepCost_3 16 rfl rfl)
theorem dX55_stepCost_88 : decode cX55_stepCost 88 = .ok (.getfield 16, 3) := dk_180 0 16 (dk_at dksX55_stepCost_3 17 rfl rfl)
theorem dX55_stepCost_91 : decode cX55_stepCost 91 = .ok (.iload_n 2, 1) := dk_28 (dk_at dksX55_stepCost_3 20 rfl rfl)
theorem dX55_stepCost_92 : decode cX55_stepCost 92 = .ok (.iaload, 1) := dk_46 (dk_at dksX55_stepCost_3 21 rfl rfl)
theorem dX55_stepCost_93 : decode cX55_stepCost 93 = .ok (.iadd, 1) := dk_96 (dk_at dksX55_stepCost_3 22 rfl rfl)
theorem dX55_stepCost_94 : decode cX55_stepCost 94 = .ok (.laload, 1) := dk_47 (dk_at dksX55_stepCost_3 23 rfl rfl)
theorem dX55_stepCost_95 : decode cX55_stepCost 95 = .ok (.ladd, 1) := dk_97 (dk_at dksX55_stepCost_4 0 rfl rfl)
theorem dX55_stepCost_96 : decode cX55_stepCost 96 = .ok (.lstore_n 3, 1) := dk_66 (dk_at dksX55_stepCost_4 1 rfl rfl)
theorem dX55_stepCost_97 : decode cX55_stepCost 97 = .ok (.ldc2_w 133, 3) := dk_20 0 133 (dk_at dksX55_stepCost_4 2 rfl rfl)
theorem dX55_stepCost_100 : decode cX55_stepCost 100 = .ok (.lload_n 3, 1) := dk_33 (dk_at dksX55_stepCost_4 5 rfl rfl)
theorem dX55_stepCost_101 : decode cX55_stepCost 101 = .ok (.lmul, 1) := dk_105 (dk_at dksX55_stepCost_4 6 rfl rfl)
theorem dX55_stepCost_102 : decode cX55_stepCost 102 = .ok (.lreturn, 1) := dk_173 (dk_at dksX55_stepCost_4 7 rfl rfl)
abbrev cX55_spread : ByteArray := prog_57_method_27_code
def yX55_spread : MethodName := ⟨RX55, "spread", "(IIJ)V"⟩
def dkwX55_spread_3 : List UInt8 := [180, 0, 70, 21, 6, 47, 80, 132, 5, 1, 167, 255, 177, 177]
abbrev dktX55_spread_3 : List UInt8 := dkwX55_spread_3 ++ []
def dkwX55_spread_2 : List UInt8 := [180, 0, 70, 21, 6, 22, 7, 42, 180, 0, 70, 21, 6, 47, 148, 156, 0, 8, 22, 7, 167, 0, 10, 42]
abbrev dktX55_spread_2 : List UInt8 := dkwX55_spread_2 ++ dktX55_spread_3
def dkwX55_spread_1 : List UInt8 := [27, 4, 21, 5, 120, 128, 104, 21, 5, 96, 54, 6, 33, 42, 28, 21, 5, 182, 0, 152, 97, 55, 7, 42]
abbrev dktX55_spread_1 : List UInt8 := dkwX55_spread_1 ++ dktX55_spread_2
def dkwX55_spread_0 : List UInt8 := [3, 54, 5, 21, 5, 42, 180, 0, 89, 162, 0, 76, 42, 27, 21, 5, 182, 0, 149, 153, 0, 60, 16, 10]
abbrev dktX55_spread_0 : List UInt8 := dkwX55_spread_0 ++ dktX55_spread_1
theorem dksX55_spread_0 : cX55_spread.data.toList.drop 0 = dktX55_spread_0 := by decide +kernel
theorem dksX55_spread_1 : cX55_spread.data.toList.drop 24 = dktX55_spread_1 := dk_seg dksX55_spread_0 24 rfl rfl
theorem dksX55_spread_2 : cX55_spread.data.toList.drop 48 = dktX55_spread_2 := dk_seg dksX55_spread_1 24 rfl rfl
theorem dksX55_spread_3 : cX55_spread.data.toList.drop 72 = dktX55_spread_3 := dk_seg dksX55_spread_2 24 rfl rfl
theorem dX55_spread_0 : decode cX55_spread 0 = .ok (.iconst 0, 1) := dk_3 (dk_at dksX55_spread_0 0 rfl rfl)
theorem dX55_spread_1 : decode cX55_spread 1 = .ok (.istore 5, 2) := dk_54 5 (dk_at dksX55_spread_0 1 rfl rfl)
theorem dX55_spread_3 : decode cX55_spread 3 = .ok (.iload 5, 2) := dk_21 5 (dk_at dksX55_spread_0 3 rfl rfl)
theorem dX55_spread_5 : decode cX55_spread 5 = .ok (.aload_n 0, 1) := dk_42 (dk_at dksX55_spread_0 5 rfl rfl)
theorem dX55_spread_6 : decode cX55_spread 6 = .ok (.getfield 89, 3) := dk_180 0 89 (dk_at dksX55_spread_0 6 rfl rfl)
theorem dX55_spread_9 : decode cX55_spread 9 = .ok (.if_icmp .ge 76, 3) := dk_162 0 76 (dk_at dksX55_spread_0 9 rfl rfl)
theorem dX55_spread_12 : decode cX55_spread 12 = .ok (.aload_n 0, 1) := dk_42 (dk_at dksX55_spread_0 12 rfl rfl)
theorem dX55_spread_13 : decode cX55_spread 13 = .ok (.iload_n 1, 1) := dk_27 (dk_at dksX55_spread_0 13 rfl rfl)
theorem dX55_spread_14 : decode cX55_spread 14 = .ok (.iload 5, 2) := dk_21 5 (dk_at dksX55_spread_0 14 rfl rfl)
theorem dX55_spread_16 : decode cX55_spread 16 = .ok (.invokevirtual 149, 3) := dk_182 0 149 (dk_at dksX55_spread_0 16 rfl rfl)
theorem dX55_spread_19 : decode cX55_spread 19 = .ok (.ifCond .eq 60, 3) := dk_153 0 60 (dk_at dksX55_spread_0 19 rfl rfl)
theorem dX55_spread_22 : decode cX55_spread 22 = .ok (.bipush 10, 2) := dk_16 10 (dk_at dksX55_spread_0 22 rfl rfl)
theorem dX55_spread_24 : decode cX55_spread 24 = .ok (.iload_n 1, 1) := dk_27 (dk_at dksX55_spread_1 0 rfl rfl)
theorem dX55_spread_25 : decode cX55_spread 25 = .ok (.iconst 1, 1) := dk_4 (dk_at dksX55_spread_1 1 rfl rfl)
theorem dX55_spread_26 : decode cX55_spread 26 = .ok (.iload 5, 2) := dk_21 5 (dk_at dksX55_spread_1 2 rfl rfl)
theorem dX55_spread_28 : decode cX55_spread 28 = .ok (.ishl, 1) := dk_120 (dk_at dksX55_spread_1 4 rfl rfl)
theorem dX55_spread_29 : decode cX55_spread 29 = .ok (.ior, 1) := dk_128 (dk_at dksX55_spread_1 5 rfl rfl)
theorem dX55_spread_30 : decode cX55_spread 30 = .ok (.imul, 1) := dk_104 (dk_at dksX55_spread_1 6 rfl rfl)
theorem dX55_spread_31 : decode cX55_spread 31 = .ok (.iload 5, 2) := dk_21 5 (dk_at dksX55_spread_1 7 rfl rfl)
theorem dX55_spread_33 : decode cX55_spread 33 = .ok (.iadd, 1) := dk_96 (dk_at dksX55_spread_1 9 rfl rfl)
theorem dX55_spread_34 : decode cX55_spread 34 = .ok (.istore 6, 2) := dk_54 6 (dk_at dksX55_spread_1 10 rfl rfl)
theorem dX55_spread_36 : decode cX55_spread 36 = .ok (.lload_n 3, 1) := dk_33 (dk_at dksX55_spread_1 12 rfl rfl)
theorem dX55_spread_37 : decode cX55_spread 37 = .ok (.aload_n 0, 1) := dk_42 (dk_at dksX55_spread_1 13 rfl rfl)
theorem dX55_spread_38 : decode cX55_spread 38 = .ok (.iload_n 2, 1) := dk_28 (dk_at dksX55_spread_1 14 rfl rfl)
theorem dX55_spread_39 : decode cX55_spread 39 = .ok (.iload 5, 2) := dk_21 5 (dk_at dksX55_spread_1 15 rfl rfl)
theorem dX55_spread_41 : decode cX55_spread 41 = .ok (.invokevirtual 152, 3) := dk_182 0 152 (dk_at dksX55_spread_1 17 rfl rfl)
theorem dX55_spread_44 : decode cX55_spread 44 = .ok (.ladd, 1) := dk_97 (dk_at dksX55_spread_1 20 rfl rfl)
theorem dX55_spread_45 : decode cX55_spread 45 = .ok (.lstore 7, 2) := dk_55 7 (dk_at dksX55_spread_1 21 rfl rfl)
theorem dX55_spread_47 : decode cX55_spread 47 = .ok (.aload_n 0, 1) := dk_42 (dk_at dksX55_spread_1 23 rfl rfl)
theorem dX55_spread_48 : decode cX55_spread 48 = .ok (.getfield 70, 3) := dk_180 0 70 (dk_at dksX55_spread_2 0 rfl rfl)
theorem dX55_spread_51 : decode cX55_spread 51 = .ok (.iload 6, 2) := dk_21 6 (dk_at dksX55_spread_2 3 rfl rfl)
theorem dX55_spread_53 : decode cX55_spread 53 = .ok (.lload 7, 2) := dk_22 7 (dk_at dksX55_spread_2 5 rfl rfl)
theorem dX55_spread_55 : decode cX55_spread 55 = .ok (.aload_n 0, 1) := dk_42 (dk_at dksX55_spread_2 7 rfl rfl)
theorem dX55_spread_56 : decode cX55_spread 56 = .ok (.getfield 70, 3) := dk_180 0 70 (dk_at dksX55_spread_2 8 rfl rfl)
theorem dX55_spread_59 : decode cX55_spread 59 = .ok (.iload 6, 2) := dk_21 6 (dk_at dksX55_spread_2 11 rfl rfl)
theorem dX55_spread_61 : decode cX55_spread 61 = .ok (.laload, 1) := dk_47 (dk_at dksX55_spread_2 13 rfl rfl)
theorem dX55_spread_62 : decode cX55_spread 62 = .ok (.lcmp, 1) := dk_148 (dk_at dksX55_spread_2 14 rfl rfl)
theorem dX55_spread_63 : decode cX55_spread 63 = .ok (.ifCond .ge 8, 3) := dk_156 0 8 (dk_at dksX55_spread_2 15 rfl rfl)
theorem dX55_spread_66 : decode cX55_spread 66 = .ok (.lload 7, 2) := dk_22 7 (dk_at dksX55_spread_2 18 rfl rfl)
theorem dX55_spread_68 : decode cX55_spread 68 = .ok (.goto 10, 3) := dk_167 0 10 (dk_at dksX55_spread_2 20 rfl rfl)
theorem dX55_spread_71 : decode cX55_spread 71 = .ok (.aload_n 0, 1) := dk_42 (dk_at dksX55_spread_2 23 rfl rfl)
theorem dX55_spread_72 : decode cX55_spread 72 = .ok (.getfield 70, 3) := dk_180 0 70 (dk_at dksX55_spread_3 0 rfl rfl)
theorem dX55_spread_75 : decode cX55_spread 75 = .ok (.iload 6, 2) := dk_21 6 (dk_at dksX55_spread_3 3 rfl rfl)
theorem dX55_spread_77 : decode cX55_spread 77 = .ok (.laload, 1) := dk_47 (dk_at dksX55_spread_3 5 rfl rfl)
theorem dX55_spread_78 : decode cX55_spread 78 = .ok (.lastore, 1) := dk_80 (dk_at dksX55_spread_3 6 rfl rfl)
theorem dX55_spread_79 : decode cX55_spread 79 = .ok (.iinc 5 1, 3) := dk_132 5 1 (dk_at dksX55_spread_3 7 rfl rfl)
theorem dX55_spread_82 : decode cX55_spread 82 = .ok (.goto (-79), 3) := dk_167 255 177 (dk_at dksX55_spread_3 10 rfl rfl)
theorem dX55_spread_85 : decode cX55_spread 85 = .ok (.return_, 1) := dk_177 (dk_at dksX55_spread_3 13 rfl rfl)
abbrev cX55_step : ByteArray := prog_57_method_29_code
def yX55_step : MethodName := ⟨RX55, "step", "(I)I"⟩
def dkwX55_step_0 : List UInt8 := [27, 155, 0, 20, 27, 42, 180, 0, 54, 162, 0, 12, 42, 180, 0, 51, 27, 46, 167, 0, 4, 2, 172]
abbrev dktX55_step_0 : List UInt8 := dkwX55_step_0 ++ []
theorem dksX55_step_0 : cX55_step.data.toList.drop 0 = dktX55_step_0 := by decide +kernel
theorem dX55_step_0 : decode cX55_step 0 = .ok (.iload_n 1, 1) := dk_27 (dk_at dksX55_step_0 0 rfl rfl)
theorem dX55_step_1 : decode cX55_step 1 = .ok (.ifCond .lt 20, 3) := dk_155 0 20 (dk_at dksX55_step_0 1 rfl rfl)
theorem dX55_step_4 : decode cX55_step 4 = .ok (.iload_n 1, 1) := dk_27 (dk_at dksX55_step_0 4 rfl rfl)
theorem dX55_step_5 : decode cX55_step 5 = .ok (.aload_n 0, 1) := dk_42 (dk_at dksX55_step_0 5 rfl rfl)
theorem dX55_step_6 : decode cX55_step 6 = .ok (.getfield 54, 3) := dk_180 0 54 (dk_at dksX55_step_0 6 rfl rfl)
theorem dX55_step_9 : decode cX55_step 9 = .ok (.if_icmp .ge 12, 3) := dk_162 0 12 (dk_at dksX55_step_0 9 rfl rfl)
theorem dX55_step_12 : decode cX55_step 12 = .ok (.aload_n 0, 1) := dk_42 (dk_at dksX55_step_0 12 rfl rfl)
theorem dX55_step_13 : decode cX55_step 13 = .ok (.getfield 51, 3) := dk_180 0 51 (dk_at dksX55_step_0 13 rfl rfl)
theorem dX55_step_16 : decode cX55_step 16 = .ok (.iload_n 1, 1) := dk_27 (dk_at dksX55_step_0 16 rfl rfl)
theorem dX55_step_17 : decode cX55_step 17 = .ok (.iaload, 1) := dk_46 (dk_at dksX55_step_0 17 rfl rfl)
theorem dX55_step_18 : decode cX55_step 18 = .ok (.goto 4, 3) := dk_167 0 4 (dk_at dksX55_step_0 18 rfl rfl)
theorem dX55_step_21 : decode cX55_step 21 = .ok (.iconst (-1), 1) := dk_2 (dk_at dksX55_step_0 21 rfl rfl)
theorem dX55_step_22 : decode cX55_step 22 = .ok (.ireturn, 1) := dk_172 (dk_at dksX55_step_0 22 rfl rfl)
abbrev cX55_stops : ByteArray := prog_57_method_30_code
def yX55_stops : MethodName := ⟨RX55, "stops", "(I)I"⟩
def dkwX55_stops_1 : List UInt8 := [184, 0, 124, 153, 0, 13, 28, 27, 160, 0, 5, 29, 172, 132, 2, 1, 132, 3, 1, 167, 255, 219, 2, 172]
abbrev dktX55_stops_1 : List UInt8 := dkwX55_stops_1 ++ []
def dkwX55_stops_0 : List UInt8 := [3, 61, 3, 62, 29, 16, 12, 162, 0, 37, 42, 180, 0, 54, 155, 0, 30, 42, 180, 0, 174, 29]
abbrev dktX55_stops_0 : List UInt8 := dkwX55_stops_0 ++ dktX55_stops_1
theorem dksX55_stops_0 : cX55_stops.data.toList.drop 0 = dktX55_stops_0 := by decide +kernel
theorem dksX55_stops_1 : cX55_stops.data.toList.drop 22 = dktX55_stops_1 := dk_seg dksX55_stops_0 22 rfl rfl
theorem dX55_stops_0 : decode cX55_stops 0 = .ok (.iconst 0, 1) := dk_3 (dk_at dksX55_stops_0 0 rfl rfl)
theorem dX55_stops_1 : decode cX55_stops 1 = .ok (.istore_n 2, 1) := dk_61 (dk_at dksX55_stops_0 1 rfl rfl)
theorem dX55_stops_2 : decode cX55_stops 2 = .ok (.iconst 0, 1) := dk_3 (dk_at dksX55_stops_0 2 rfl rfl)
theorem dX55_stops_3 : decode cX55_stops 3 = .ok (.istore_n 3, 1) := dk_62 (dk_at dksX55_stops_0 3 rfl rfl)
theorem dX55_stops_4 : decode cX55_stops 4 = .ok (.iload_n 3, 1) := dk_29 (dk_at dksX55_stops_0 4 rfl rfl)
theorem dX55_stops_5 : decode cX55_stops 5 = .ok (.bipush 12, 2) := dk_16 12 (dk_at dksX55_stops_0 5 rfl rfl)
theorem dX55_stops_7 : decode cX55_stops 7 = .ok (.if_icmp .ge 37, 3) := dk_162 0 37 (dk_at dksX55_stops_0 7 rfl rfl)
theorem dX55_stops_10 : decode cX55_stops 10 = .ok (.aload_n 0, 1) := dk_42 (dk_at dksX55_stops_0 10 rfl rfl)
theorem dX55_stops_11 : decode cX55_stops 11 = .ok (.getfield 54, 3) := dk_180 0 54 (dk_at dksX55_stops_0 11 rfl rfl)
theorem dX55_stops_14 : decode cX55_stops 14 = .ok (.ifCond .lt 30, 3) := dk_155 0 30 (dk_at dksX55_stops_0 14 rfl rfl)
theorem dX55_stops_17 : decode cX55_stops 17 = .ok (.aload_n 0, 1) := dk_42 (dk_at dksX55_stops_0 17 rfl rfl)
theorem dX55_stops_18 : decode cX55_stops 18 = .ok (.getfield 174, 3) := dk_180 0 174 (dk_at dksX55_stops_0 18 rfl rfl)
theorem dX55_stops_21 : decode cX55_stops 21 = .ok (.iload_n 3, 1) := dk_29 (dk_at dksX55_stops_0 21 rfl rfl)
theorem dX55_stops_22 : decode cX55_stops 22 = .ok (.invokestatic 124, 3) := dk_184 0 124 (dk_at dksX55_stops_1 0 rfl rfl)
theorem dX55_stops_25 : decode cX55_stops 25 = .ok (.ifCond .eq 13, 3) := dk_153 0 13 (dk_at dksX55_stops_1 3 rfl rfl)
theorem dX55_stops_28 : decode cX55_stops 28 = .ok (.iload_n 2, 1) := dk_28 (dk_at dksX55_stops_1 6 rfl rfl)
theorem dX55_stops_29 : decode cX55_stops 29 = .ok (.iload_n 1, 1) := dk_27 (dk_at dksX55_stops_1 7 rfl rfl)
theorem dX55_stops_30 : decode cX55_stops 30 = .ok (.if_icmp .ne 5, 3) := dk_160 0 5 (dk_at dksX55_stops_1 8 rfl rfl)
theorem dX55_stops_33 : decode cX55_stops 33 = .ok (.iload_n 3, 1) := dk_29 (dk_at dksX55_stops_1 11 rfl rfl)
theorem dX55_stops_34 : decode cX55_stops 34 = .ok (.ireturn, 1) := dk_172 (dk_at dksX55_stops_1 12 rfl rfl)
theorem dX55_stops_35 : decode cX55_stops 35 = .ok (.iinc 2 1, 3) := dk_132 2 1 (dk_at dksX55_stops_1 13 rfl rfl)
theorem dX55_stops_38 : decode cX55_stops 38 = .ok (.iinc 3 1, 3) := dk_132 3 1 (dk_at dksX55_stops_1 16 rfl rfl)
theorem dX55_stops_41 : decode cX55_stops 41 = .ok (.goto (-37), 3) := dk_167 255 219 (dk_at dksX55_stops_1 19 rfl rfl)
theorem dX55_stops_44 : decode cX55_stops 44 = .ok (.iconst (-1), 1) := dk_2 (dk_at dksX55_stops_1 22 rfl rfl)
theorem dX55_stops_45 : decode cX55_stops 45 = .ok (.ireturn, 1) := dk_172 (dk_at dksX55_stops_1 23 rfl rfl)
abbrev cX55_other : ByteArray := prog_57_method_32_code
def yX55_other : MethodName := ⟨RX55, "other", "(I)I"⟩
def dkwX55_other_1 : List UInt8 := [154, 0, 13, 28, 27, 160, 0, 5, 29, 172, 132, 2, 1, 132, 3, 1, 167, 255, 220, 2, 172]
abbrev dktX55_other_1 : List UInt8 := dkwX55_other_1 ++ []
def dkwX55_other_0 : List UInt8 := [3, 61, 3, 62, 29, 42, 180, 0, 177, 162, 0, 34, 42, 180, 0, 54, 155, 0, 27, 42, 29, 182, 0, 180]
abbrev dktX55_other_0 : List UInt8 := dkwX55_other_0 ++ dktX55_other_1
theorem dksX55_other_0 : cX55_other.data.toList.drop 0 = dktX55_other_0 := by decide +kernel
theorem dksX55_other_1 : cX55_other.data.toList.drop 24 = dktX55_other_1 := dk_seg dksX55_other_0 24 rfl rfl
theorem dX55_other_0 : decode cX55_other 0 = .ok (.iconst 0, 1) := dk_3 (dk_at dksX55_other_0 0 rfl rfl)
theorem dX55_other_1 : decode cX55_other 1 = .ok (.istore_n 2, 1) := dk_61 (dk_at dksX55_other_0 1 rfl rfl)
theorem dX55_other_2 : decode cX55_other 2 = .ok (.iconst 0, 1) := dk_3 (dk_at dksX55_other_0 2 rfl rfl)
theorem dX55_other_3 : decode cX55_other 3 = .ok (.istore_n 3, 1) := dk_62 (dk_at dksX55_other_0 3 rfl rfl)
theorem dX55_other_4 : decode cX55_other 4 = .ok (.iload_n 3, 1) := dk_29 (dk_at dksX55_other_0 4 rfl rfl)
theorem dX55_other_5 : decode cX55_other 5 = .ok (.aload_n 0, 1) := dk_42 (dk_at dksX55_other_0 5 rfl rfl)
theorem dX55_other_6 : decode cX55_other 6 = .ok (.getfield 177, 3) := dk_180 0 177 (dk_at dksX55_other_0 6 rfl rfl)
theorem dX55_other_9 : decode cX55_other 9 = .ok (.if_icmp .ge 34, 3) := dk_162 0 34 (dk_at dksX55_other_0 9 rfl rfl)
theorem dX55_other_12 : decode cX55_other 12 = .ok (.aload_n 0, 1) := dk_42 (dk_at dksX55_other_0 12 rfl rfl)
theorem dX55_other_13 : decode cX55_other 13 = .ok (.getfield 54, 3) := dk_180 0 54 (dk_at dksX55_other_0 13 rfl rfl)
theorem dX55_other_16 : decode cX55_other 16 = .ok (.ifCond .lt 27, 3) := dk_155 0 27 (dk_at dksX55_other_0 16 rfl rfl)
theorem dX55_other_19 : decode cX55_other 19 = .ok (.aload_n 0, 1) := dk_42 (dk_at dksX55_other_0 19 rfl rfl)
theorem dX55_other_20 : decode cX55_other 20 = .ok (.iload_n 3, 1) := dk_29 (dk_at dksX55_other_0 20 rfl rfl)
theorem dX55_other_21 : decode cX55_other 21 = .ok (.invokevirtual 180, 3) := dk_182 0 180 (dk_at dksX55_other_0 21 rfl rfl)
theorem dX55_other_24 : decode cX55_other 24 = .ok (.ifCond .ne 13, 3) := dk_154 0 13 (dk_at dksX55_other_1 0 rfl rfl)
theorem dX55_other_27 : decode cX55_other 27 = .ok (.iload_n 2, 1) := dk_28 (dk_at dksX55_other_1 3 rfl rfl)
theorem dX55_other_28 : decode cX55_other 28 = .ok (.iload_n 1, 1) := dk_27 (dk_at dksX55_other_1 4 rfl rfl)
theorem dX55_other_29 : decode cX55_other 29 = .ok (.if_icmp .ne 5, 3) := dk_160 0 5 (dk_at dksX55_other_1 5 rfl rfl)
theorem dX55_other_32 : decode cX55_other 32 = .ok (.iload_n 3, 1) := dk_29 (dk_at dksX55_other_1 8 rfl rfl)
theorem dX55_other_33 : decode cX55_other 33 = .ok (.ireturn, 1) := dk_172 (dk_at dksX55_other_1 9 rfl rfl)
theorem dX55_other_34 : decode cX55_other 34 = .ok (.iinc 2 1, 3) := dk_132 2 1 (dk_at dksX55_other_1 10 rfl rfl)
theorem dX55_other_37 : decode cX55_other 37 = .ok (.iinc 3 1, 3) := dk_132 3 1 (dk_at dksX55_other_1 13 rfl rfl)
theorem dX55_other_40 : decode cX55_other 40 = .ok (.goto (-36), 3) := dk_167 255 220 (dk_at dksX55_other_1 16 rfl rfl)
theorem dX55_other_43 : decode cX55_other 43 = .ok (.iconst (-1), 1) := dk_2 (dk_at dksX55_other_1 19 rfl rfl)
theorem dX55_other_44 : decode cX55_other 44 = .ok (.ireturn, 1) := dk_172 (dk_at dksX55_other_1 20 rfl rfl)
abbrev cX55_isInRow : ByteArray := prog_57_method_31_code
def yX55_isInRow : MethodName := ⟨RX55, "isInRow", "(I)Z"⟩
def dkwX55_isInRow_1 : List UInt8 := [160, 0, 7, 4, 167, 0, 4, 3, 61, 132, 3, 1, 167, 255, 225, 28, 172]
abbrev dktX55_isInRow_1 : List UInt8 := dkwX55_isInRow_1 ++ []
def dkwX55_isInRow_0 : List UInt8 := [3, 61, 3, 62, 29, 42, 180, 0, 54, 162, 0, 29, 28, 154, 0, 13, 42, 180, 0, 51, 29, 46, 27]
abbrev dktX55_isInRow_0 : List UInt8 := dkwX55_isInRow_0 ++ dktX55_isInRow_1
theorem dksX55_isInRow_0 : cX55_isInRow.data.toList.drop 0 = dktX55_isInRow_0 := by decide +kernel
theorem dksX55_isInRow_1 : cX55_isInRow.data.toList.drop 23 = dktX55_isInRow_1 := dk_seg dksX55_isInRow_0 23 rfl rfl
theorem dX55_isInRow_0 : decode cX55_isInRow 0 = .ok (.iconst 0, 1) := dk_3 (dk_at dksX55_isInRow_0 0 rfl rfl)
theorem dX55_isInRow_1 : decode cX55_isInRow 1 = .ok (.istore_n 2, 1) := dk_61 (dk_at dksX55_isInRow_0 1 rfl rfl)
theorem dX55_isInRow_2 : decode cX55_isInRow 2 = .ok (.iconst 0, 1) := dk_3 (dk_at dksX55_isInRow_0 2 rfl rfl)
theorem dX55_isInRow_3 : decode cX55_isInRow 3 = .ok (.istore_n 3, 1) := dk_62 (dk_at dksX55_isInRow_0 3 rfl rfl)
theorem dX55_isInRow_4 : decode cX55_isInRow 4 = .ok (.iload_n 3, 1) := dk_29 (dk_at dksX55_isInRow_0 4 rfl rfl)
theorem dX55_isInRow_5 : decode cX55_isInRow 5 = .ok (.aload_n 0, 1) := dk_42 (dk_at dksX55_isInRow_0 5 rfl rfl)
theorem dX55_isInRow_6 : decode cX55_isInRow 6 = .ok (.getfield 54, 3) := dk_180 0 54 (dk_at dksX55_isInRow_0 6 rfl rfl)
theorem dX55_isInRow_9 : decode cX55_isInRow 9 = .ok (.if_icmp .ge 29, 3) := dk_162 0 29 (dk_at dksX55_isInRow_0 9 rfl rfl)
theorem dX55_isInRow_12 : decode cX55_isInRow 12 = .ok (.iload_n 2, 1) := dk_28 (dk_at dksX55_isInRow_0 12 rfl rfl)
theorem dX55_isInRow_13 : decode cX55_isInRow 13 = .ok (.ifCond .ne 13, 3) := dk_154 0 13 (dk_at dksX55_isInRow_0 13 rfl rfl)
theorem dX55_isInRow_16 : decode cX55_isInRow 16 = .ok (.aload_n 0, 1) := dk_42 (dk_at dksX55_isInRow_0 16 rfl rfl)
theorem dX55_isInRow_17 : decode cX55_isInRow 17 = .ok (.getfield 51, 3) := dk_180 0 51 (dk_at dksX55_isInRow_0 17 rfl rfl)
theorem dX55_isInRow_20 : decode cX55_isInRow 20 = .ok (.iload_n 3, 1) := dk_29 (dk_at dksX55_isInRow_0 20 rfl rfl)
theorem dX55_isInRow_21 : decode cX55_isInRow 21 = .ok (.iaload, 1) := dk_46 (dk_at dksX55_isInRow_0 21 rfl rfl)
theorem dX55_isInRow_22 : decode cX55_isInRow 22 = .ok (.iload_n 1, 1) := dk_27 (dk_at dksX55_isInRow_0 22 rfl rfl)
theorem dX55_isInRow_23 : decode cX55_isInRow 23 = .ok (.if_icmp .ne 7, 3) := dk_160 0 7 (dk_at dksX55_isInRow_1 0 rfl rfl)
theorem dX55_isInRow_26 : decode cX55_isInRow 26 = .ok (.iconst 1, 1) := dk_4 (dk_at dksX55_isInRow_1 3 rfl rfl)
theorem dX55_isInRow_27 : decode cX55_isInRow 27 = .ok (.goto 4, 3) := dk_167 0 4 (dk_at dksX55_isInRow_1 4 rfl rfl)
theorem dX55_isInRow_30 : decode cX55_isInRow 30 = .ok (.iconst 0, 1) := dk_3 (dk_at dksX55_isInRow_1 7 rfl rfl)
theorem dX55_isInRow_31 : decode cX55_isInRow 31 = .ok (.istore_n 2, 1) := dk_61 (dk_at dksX55_isInRow_1 8 rfl rfl)
theorem dX55_isInRow_32 : decode cX55_isInRow 32 = .ok (.iinc 3 1, 3) := dk_132 3 1 (dk_at dksX55_isInRow_1 9 rfl rfl)
theorem dX55_isInRow_35 : decode cX55_isInRow 35 = .ok (.goto (-31), 3) := dk_167 255 225 (dk_at dksX55_isInRow_1 12 rfl rfl)
theorem dX55_isInRow_38 : decode cX55_isInRow 38 = .ok (.iload_n 2, 1) := dk_28 (dk_at dksX55_isInRow_1 15 rfl rfl)
theorem dX55_isInRow_39 : decode cX55_isInRow 39 = .ok (.ireturn, 1) := dk_172 (dk_at dksX55_isInRow_1 16 rfl rfl)
abbrev cX55_gain : ByteArray := prog_57_method_33_code
def yX55_gain : MethodName := ⟨RX55, "gain", "(I)J"⟩
def dkwX55_gain_1 : List UInt8 := [184, 0, 111, 153, 0, 12, 42, 180, 0, 58, 27, 47, 167, 0, 4, 9, 173]
abbrev dktX55_gain_1 : List UInt8 := dkwX55_gain_1 ++ []
def dkwX55_gain_0 : List UInt8 := [42, 180, 0, 54, 156, 0, 5, 9, 173, 27, 2, 160, 0, 10, 42, 180, 0, 170, 167, 0, 20, 27]
abbrev dktX55_gain_0 : List UInt8 := dkwX55_gain_0 ++ dktX55_gain_1
theorem dksX55_gain_0 : cX55_gain.data.toList.drop 0 = dktX55_gain_0 := by decide +kernel
theorem dksX55_gain_1 : cX55_gain.data.toList.drop 22 = dktX55_gain_1 := dk_seg dksX55_gain_0 22 rfl rfl
theorem dX55_gain_0 : decode cX55_gain 0 = .ok (.aload_n 0, 1) := dk_42 (dk_at dksX55_gain_0 0 rfl rfl)
theorem dX55_gain_1 : decode cX55_gain 1 = .ok (.getfield 54, 3) := dk_180 0 54 (dk_at dksX55_gain_0 1 rfl rfl)
theorem dX55_gain_4 : decode cX55_gain 4 = .ok (.ifCond .ge 5, 3) := dk_156 0 5 (dk_at dksX55_gain_0 4 rfl rfl)
theorem dX55_gain_7 : decode cX55_gain 7 = .ok (.lconst 0, 1) := dk_9 (dk_at dksX55_gain_0 7 rfl rfl)
theorem dX55_gain_8 : decode cX55_gain 8 = .ok (.lreturn, 1) := dk_173 (dk_at dksX55_gain_0 8 rfl rfl)
theorem dX55_gain_9 : decode cX55_gain 9 = .ok (.iload_n 1, 1) := dk_27 (dk_at dksX55_gain_0 9 rfl rfl)
theorem dX55_gain_10 : decode cX55_gain 10 = .ok (.iconst (-1), 1) := dk_2 (dk_at dksX55_gain_0 10 rfl rfl)
theorem dX55_gain_11 : decode cX55_gain 11 = .ok (.if_icmp .ne 10, 3) := dk_160 0 10 (dk_at dksX55_gain_0 11 rfl rfl)
theorem dX55_gain_14 : decode cX55_gain 14 = .ok (.aload_n 0, 1) := dk_42 (dk_at dksX55_gain_0 14 rfl rfl)
theorem dX55_gain_15 : decode cX55_gain 15 = .ok (.getfield 170, 3) := dk_180 0 170 (dk_at dksX55_gain_0 15 rfl rfl)
theorem dX55_gain_18 : decode cX55_gain 18 = .ok (.goto 20, 3) := dk_167 0 20 (dk_at dksX55_gain_0 18 rfl rfl)
theorem dX55_gain_21 : decode cX55_gain 21 = .ok (.iload_n 1, 1) := dk_27 (dk_at dksX55_gain_0 21 rfl rfl)
theorem dX55_gain_22 : decode cX55_gain 22 = .ok (.invokestatic 111, 3) := dk_184 0 111 (dk_at dksX55_gain_1 0 rfl rfl)
theorem dX55_gain_25 : decode cX55_gain 25 = .ok (.ifCond .eq 12, 3) := dk_153 0 12 (dk_at dksX55_gain_1 3 rfl rfl)
theorem dX55_gain_28 : decode cX55_gain 28 = .ok (.aload_n 0, 1) := dk_42 (dk_at dksX55_gain_1 6 rfl rfl)
theorem dX55_gain_29 : decode cX55_gain 29 = .ok (.getfield 58, 3) := dk_180 0 58 (dk_at dksX55_gain_1 7 rfl rfl)
theorem dX55_gain_32 : decode cX55_gain 32 = .ok (.iload_n 1, 1) := dk_27 (dk_at dksX55_gain_1 10 rfl rfl)
theorem dX55_gain_33 : decode cX55_gain 33 = .ok (.laload, 1) := dk_47 (dk_at dksX55_gain_1 11 rfl rfl)
theorem dX55_gain_34 : decode cX55_gain 34 = .ok (.goto 4, 3) := dk_167 0 4 (dk_at dksX55_gain_1 12 rfl rfl)
theorem dX55_gain_37 : decode cX55_gain 37 = .ok (.lconst 0, 1) := dk_9 (dk_at dksX55_gain_1 15 rfl rfl)
theorem dX55_gain_38 : decode cX55_gain 38 = .ok (.lreturn, 1) := dk_173 (dk_at dksX55_gain_1 16 rfl rfl)
abbrev cX55_proved : ByteArray := prog_57_method_34_code
def yX55_proved : MethodName := ⟨RX55, "proved", "()Z"⟩
theorem dX55_proved_0 : decode cX55_proved 0 = .ok (.aload_n 0, 1) := by decide +kernel
theorem dX55_proved_1 : decode cX55_proved 1 = .ok (.getfield 100, 3) := by decide +kernel
theorem dX55_proved_4 : decode cX55_proved 4 = .ok (.ireturn, 1) := by decide +kernel
abbrev cX55_bound : ByteArray := prog_57_method_35_code
def yX55_bound : MethodName := ⟨RX55, "bound", "()J"⟩
def dkwX55_bound_4 : List UInt8 := [47, 167, 0, 4, 33, 66, 132, 5, 1, 167, 255, 220, 31, 20, 0, 133, 33, 105, 97, 173]
abbrev dktX55_bound_4 : List UInt8 := dkwX55_bound_4 ++ []
def dkwX55_bound_3 : List UInt8 := [180, 0, 119, 162, 0, 33, 42, 180, 0, 48, 21, 5, 47, 33, 148, 158, 0, 13, 42, 180, 0, 48, 21, 5]
abbrev dktX55_bound_3 : List UInt8 := dkwX55_bound_3 ++ dktX55_bound_4
def dkwX55_bound_2 : List UInt8 := [133, 105, 167, 0, 4, 9, 97, 64, 132, 3, 1, 167, 255, 203, 9, 66, 3, 54, 5, 21, 5, 42]
abbrev dktX55_bound_2 : List UInt8 := dkwX55_bound_2 ++ dktX55_bound_3
def dkwX55_bound_1 : List UInt8 := [20, 0, 133, 42, 180, 0, 36, 29, 47, 105, 42, 180, 0, 42, 29, 46, 133, 109, 42, 180, 0, 39, 29, 46]
abbrev dktX55_bound_1 : List UInt8 := dkwX55_bound_1 ++ dktX55_bound_2
def dkwX55_bound_0 : List UInt8 := [9, 64, 3, 62, 29, 16, 12, 162, 0, 53, 31, 42, 180, 0, 36, 29, 47, 9, 148, 158, 0, 32]
abbrev dktX55_bound_0 : List UInt8 := dkwX55_bound_0 ++ dktX55_bound_1
theorem dksX55_bound_0 : cX55_bound.data.toList.drop 0 = dktX55_bound_0 := by decide +kernel
theorem dksX55_bound_1 : cX55_bound.data.toList.drop 22 = dktX55_bound_1 := dk_seg dksX55_bound_0 22 rfl rfl
theorem dksX55_bound_2 : cX55_bound.data.toList.drop 46 = dktX55_bound_2 := dk_seg dksX55_bound_1 24 rfl rfl
theorem dksX55_bound_3 : cX55_bound.data.toList.drop 68 = dktX55_bound_3 := dk_seg dksX55_bound_2 22 rfl rfl
theorem dksX55_bound_4 : cX55_bound.data.toList.drop 92 = dktX55_bound_4 := dk_seg dksX55_bound_3 24 rfl rfl
theorem dX55_bound_0 : decode cX55_bound 0 = .ok (.lconst 0, 1) := dk_9 (dk_at dksX55_bound_0 0 rfl rfl)
theorem dX55_bound_1 : decode cX55_bound 1 = .ok (.lstore_n 1, 1) := dk_64 (dk_at dksX55_bound_0 1 rfl rfl)
theorem dX55_bound_2 : decode cX55_bound 2 = .ok (.iconst 0, 1) := dk_3 (dk_at dksX55_bound_0 2 rfl rfl)
theorem dX55_bound_3 : decode cX55_bound 3 = .ok (.istore_n 3, 1) := dk_62 (dk_at dksX55_bound_0 3 rfl rfl)
theorem dX55_bound_4 : decode cX55_bound 4 = .ok (.iload_n 3, 1) := dk_29 (dk_at dksX55_bound_0 4 rfl rfl)
theorem dX55_bound_5 : decode cX55_bound 5 = .ok (.bipush 12, 2) := dk_16 12 (dk_at dksX55_bound_0 5 rfl rfl)
theorem dX55_bound_7 : decode cX55_bound 7 = .ok (.if_icmp .ge 53, 3) := dk_162 0 53 (dk_at dksX55_bound_0 7 rfl rfl)
theorem dX55_bound_10 : decode cX55_bound 10 = .ok (.lload_n 1, 1) := dk_31 (dk_at dksX55_bound_0 10 rfl rfl)
theorem dX55_bound_11 : decode cX55_bound 11 = .ok (.aload_n 0, 1) := dk_42 (dk_at dksX55_bound_0 11 rfl rfl)
theorem dX55_bound_12 : decode cX55_bound 12 = .ok (.getfield 36, 3) := dk_180 0 36 (dk_at dksX55_bound_0 12 rfl rfl)
theorem dX55_bound_15 : decode cX55_bound 15 = .ok (.iload_n 3, 1) := dk_29 (dk_at dksX55_bound_0 15 rfl rfl)
theorem dX55_bound_16 : decode cX55_bound 16 = .ok (.laload, 1) := dk_47 (dk_at dksX55_bound_0 16 rfl rfl)
theorem dX55_bound_17 : decode cX55_bound 17 = .ok (.lconst 0, 1) := dk_9 (dk_at dksX55_bound_0 17 rfl rfl)
theorem dX55_bound_18 : decode cX55_bound 18 = .ok (.lcmp, 1) := dk_148 (dk_at dksX55_bound_0 18 rfl rfl)
theorem dX55_bound_19 : decode cX55_bound 19 = .ok (.ifCond .le 32, 3) := dk_158 0 32 (dk_at dksX55_bound_0 19 rfl rfl)
theorem dX55_bound_22 : decode cX55_bound 22 = .ok (.ldc2_w 133, 3) := dk_20 0 133 (dk_at dksX55_bound_1 0 rfl rfl)
theorem dX55_bound_25 : decode cX55_bound 25 = .ok (.aload_n 0, 1) := dk_42 (dk_at dksX55_bound_1 3 rfl rfl)
theorem dX55_bound_26 : decode cX55_bound 26 = .ok (.getfield 36, 3) := dk_180 0 36 (dk_at dksX55_bound_1 4 rfl rfl)
theorem dX55_bound_29 : decode cX55_bound 29 = .ok (.iload_n 3, 1) := dk_29 (dk_at dksX55_bound_1 7 rfl rfl)
theorem dX55_bound_30 : decode cX55_bound 30 = .ok (.laload, 1) := dk_47 (dk_at dksX55_bound_1 8 rfl rfl)
theorem dX55_bound_31 : decode cX55_bound 31 = .ok (.lmul, 1) := dk_105 (dk_at dksX55_bound_1 9 rfl rfl)
theorem dX55_bound_32 : decode cX55_bound 32 = .ok (.aload_n 0, 1) := dk_42 (dk_at dksX55_bound_1 10 rfl rfl)
theorem dX55_bound_33 : decode cX55_bound 33 = .ok (.getfield 42, 3) := dk_180 0 42 (dk_at dksX55_bound_1 11 rfl rfl)
theorem dX55_bound_36 : decode cX55_bound 36 = .ok (.iload_n 3, 1) := dk_29 (dk_at dksX55_bound_1 14 rfl rfl)
theorem dX55_bound_37 : decode cX55_bound 37 = .ok (.iaload, 1) := dk_46 (dk_at dksX55_bound_1 15 rfl rfl)
theorem dX55_bound_38 : decode cX55_bound 38 = .ok (.i2l, 1) := dk_133 (dk_at dksX55_bound_1 16 rfl rfl)
theorem dX55_bound_39 : decode cX55_bound 39 = .ok (.ldiv, 1) := dk_109 (dk_at dksX55_bound_1 17 rfl rfl)
theorem dX55_bound_40 : decode cX55_bound 40 = .ok (.aload_n 0, 1) := dk_42 (dk_at dksX55_bound_1 18 rfl rfl)
theorem dX55_bound_41 : decode cX55_bound 41 = .ok (.getfield 39, 3) := dk_180 0 39 (dk_at dksX55_bound_1 19 rfl rfl)
theorem dX55_bound_44 : decode cX55_bound 44 = .ok (.iload_n 3, 1) := dk_29 (dk_at dksX55_bound_1 22 rfl rfl)
theorem dX55_bound_45 : decode cX55_bound 45 = .ok (.iaload, 1) := dk_46 (dk_at dksX55_bound_1 23 rfl rfl)
theorem dX55_bound_46 : decode cX55_bound 46 = .ok (.i2l, 1) := dk_133 (dk_at dksX55_bound_2 0 rfl rfl)
theorem dX55_bound_47 : decode cX55_bound 47 = .ok (.lmul, 1) := dk_105 (dk_at dksX55_bound_2 1 rfl rfl)
theorem dX55_bound_48 : decode cX55_bound 48 = .ok (.goto 4, 3) := dk_167 0 4 (dk_at dksX55_bound_2 2 rfl rfl)
theorem dX55_bound_51 : decode cX55_bound 51 = .ok (.lconst 0, 1) := dk_9 (dk_at dksX55_bound_2 5 rfl rfl)
theorem dX55_bound_52 : decode cX55_bound 52 = .ok (.ladd, 1) := dk_97 (dk_at dksX55_bound_2 6 rfl rfl)
theorem dX55_bound_53 : decode cX55_bound 53 = .ok (.lstore_n 1, 1) := dk_64 (dk_at dksX55_bound_2 7 rfl rfl)
theorem dX55_bound_54 : decode cX55_bound 54 = .ok (.iinc 3 1, 3) := dk_132 3 1 (dk_at dksX55_bound_2 8 rfl rfl)
theorem dX55_bound_57 : decode cX55_bound 57 = .ok (.goto (-53), 3) := dk_167 255 203 (dk_at dksX55_bound_2 11 rfl rfl)
theorem dX55_bound_60 : decode cX55_bound 60 = .ok (.lconst 0, 1) := dk_9 (dk_at dksX55_bound_2 14 rfl rfl)
theorem dX55_bound_61 : decode cX55_bound 61 = .ok (.lstore_n 3, 1) := dk_66 (dk_at dksX55_bound_2 15 rfl rfl)
theorem dX55_bound_62 : decode cX55_bound 62 = .ok (.iconst 0, 1) := dk_3 (dk_at dksX55_bound_2 16 rfl rfl)
theorem dX55_bound_63 : decode cX55_bound 63 = .ok (.istore 5, 2) := dk_54 5 (dk_at dksX55_bound_2 17 rfl rfl)
theorem dX55_bound_65 : decode cX55_bound 65 = .ok (.iload 5, 2) := dk_21 5 (dk_at dksX55_bound_2 19 rfl rfl)
theorem dX55_bound_67 : decode cX55_bound 67 = .ok (.aload_n 0, 1) := dk_42 (dk_at dksX55_bound_2 21 rfl rfl)
theorem dX55_bound_68 : decode cX55_bound 68 = .ok (.getfield 119, 3) := dk_180 0 119 (dk_at dksX55_bound_3 0 rfl rfl)
theorem dX55_bound_71 : decode cX55_bound 71 = .ok (.if_icmp .ge 33, 3) := dk_162 0 33 (dk_at dksX55_bound_3 3 rfl rfl)
theorem dX55_bound_74 : decode cX55_bound 74 = .ok (.aload_n 0, 1) := dk_42 (dk_at dksX55_bound_3 6 rfl rfl)
theorem dX55_bound_75 : decode cX55_bound 75 = .ok (.getfield 48, 3) := dk_180 0 48 (dk_at dksX55_bound_3 7 rfl rfl)
theorem dX55_bound_78 : decode cX55_bound 78 = .ok (.iload 5, 2) := dk_21 5 (dk_at dksX55_bound_3 10 rfl rfl)
theorem dX55_bound_80 : decode cX55_bound 80 = .ok (.laload, 1) := dk_47 (dk_at dksX55_bound_3 12 rfl rfl)
theorem dX55_bound_81 : decode cX55_bound 81 = .ok (.lload_n 3, 1) := dk_33 (dk_at dksX55_bound_3 13 rfl rfl)
theorem dX55_bound_82 : decode cX55_bound 82 = .ok (.lcmp, 1) := dk_148 (dk_at dksX55_bound_3 14 rfl rfl)
theorem dX55_bound_83 : decode cX55_bound 83 = .ok (.ifCond .le 13, 3) := dk_158 0 13 (dk_at dksX55_bound_3 15 rfl rfl)
theorem dX55_bound_86 : decode cX55_bound 86 = .ok (.aload_n 0, 1) := dk_42 (dk_at dksX55_bound_3 18 rfl rfl)
theorem dX55_bound_87 : decode cX55_bound 87 = .ok (.getfield 48, 3) := dk_180 0 48 (dk_at dksX55_bound_3 19 rfl rfl)
theorem dX55_bound_90 : decode cX55_bound 90 = .ok (.iload 5, 2) := dk_21 5 (dk_at dksX55_bound_3 22 rfl rfl)
theorem dX55_bound_92 : decode cX55_bound 92 = .ok (.laload, 1) := dk_47 (dk_at dksX55_bound_4 0 rfl rfl)
theorem dX55_bound_93 : decode cX55_bound 93 = .ok (.goto 4, 3) := dk_167 0 4 (dk_at dksX55_bound_4 1 rfl rfl)
theorem dX55_bound_96 : decode cX55_bound 96 = .ok (.lload_n 3, 1) := dk_33 (dk_at dksX55_bound_4 4 rfl rfl)
theorem dX55_bound_97 : decode cX55_bound 97 = .ok (.lstore_n 3, 1) := dk_66 (dk_at dksX55_bound_4 5 rfl rfl)
theorem dX55_bound_98 : decode cX55_bound 98 = .ok (.iinc 5 1, 3) := dk_132 5 1 (dk_at dksX55_bound_4 6 rfl rfl)
theorem dX55_bound_101 : decode cX55_bound 101 = .ok (.goto (-36), 3) := dk_167 255 220 (dk_at dksX55_bound_4 9 rfl rfl)
theorem dX55_bound_104 : decode cX55_bound 104 = .ok (.lload_n 1, 1) := dk_31 (dk_at dksX55_bound_4 12 rfl rfl)
theorem dX55_bound_105 : decode cX55_bound 105 = .ok (.ldc2_w 133, 3) := dk_20 0 133 (dk_at dksX55_bound_4 13 rfl rfl)
theorem dX55_bound_108 : decode cX55_bound 108 = .ok (.lload_n 3, 1) := dk_33 (dk_at dksX55_bound_4 16 rfl rfl)
theorem dX55_bound_109 : decode cX55_bound 109 = .ok (.lmul, 1) := dk_105 (dk_at dksX55_bound_4 17 rfl rfl)
theorem dX55_bound_110 : decode cX55_bound 110 = .ok (.ladd, 1) := dk_97 (dk_at dksX55_bound_4 18 rfl rfl)
theorem dX55_bound_111 : decode cX55_bound 111 = .ok (.lreturn, 1) := dk_173 (dk_at dksX55_bound_4 19 rfl rfl)
abbrev cX55_test : ByteArray := prog_57_method_37_code
def yX55_test : MethodName := ⟨RX55, "test", "(IJ)I"⟩
def dkwX55_test_4 : List UInt8 := [22, 4, 105, 148, 158, 0, 7, 4, 167, 0, 4, 3, 172]
abbrev dktX55_test_4 : List UInt8 := dkwX55_test_4 ++ []
def dkwX55_test_3 : List UInt8 := [180, 0, 42, 27, 46, 133, 20, 0, 133, 105, 32, 105, 101, 55, 10, 22, 10, 42, 180, 0, 42, 27, 46, 133]
abbrev dktX55_test_3 : List UInt8 := dkwX55_test_3 ++ dktX55_test_4
def dkwX55_test_2 : List UInt8 := [22, 6, 105, 42, 180, 0, 42, 27, 46, 42, 180, 0, 39, 27, 46, 100, 133, 22, 8, 105, 97, 42]
abbrev dktX55_test_2 : List UInt8 := dkwX55_test_2 ++ dktX55_test_3
def dkwX55_test_1 : List UInt8 := [42, 27, 4, 182, 0, 183, 55, 6, 42, 27, 3, 182, 0, 183, 55, 8, 42, 180, 0, 39, 27, 46, 133]
abbrev dktX55_test_1 : List UInt8 := dkwX55_test_1 ++ dktX55_test_2
def dkwX55_test_0 : List UInt8 := [27, 184, 0, 111, 153, 0, 10, 32, 184, 0, 96, 154, 0, 5, 2, 172, 42, 2, 3, 182, 0, 183, 55, 4]
abbrev dktX55_test_0 : List UInt8 := dkwX55_test_0 ++ dktX55_test_1
theorem dksX55_test_0 : cX55_test.data.toList.drop 0 = dktX55_test_0 := by decide +kernel
theorem dksX55_test_1 : cX55_test.data.toList.drop 24 = dktX55_test_1 := dk_seg dksX55_test_0 24 rfl rfl
theorem dksX55_test_2 : cX55_test.data.toList.drop 47 = dktX55_test_2 := dk_seg dksX55_test_1 23 rfl rfl
theorem dksX55_test_3 : cX55_test.data.toList.drop 69 = dktX55_test_3 := dk_seg dksX55_test_2 22 rfl rfl
theorem dksX55_test_4 : cX55_test.data.toList.drop 93 = dktX55_test_4 := dk_seg dksX55_test_3 24 rfl rfl
theorem dX55_test_0 : decode cX55_test 0 = .ok (.iload_n 1, 1) := dk_27 (dk_at dksX55_test_0 0 rfl rfl)
theorem dX55_test_1 : decode cX55_test 1 = .ok (.invokestatic 111, 3) := dk_184 0 111 (dk_at dksX55_test_0 1 rfl rfl)
theorem dX55_test_4 : decode cX55_test 4 = .ok (.ifCond .eq 10, 3) := dk_153 0 10 (dk_at dksX55_test_0 4 rfl rfl)
theorem dX55_test_7 : decode cX55_test 7 = .ok (.lload_n 2, 1) := dk_32 (dk_at dksX55_test_0 7 rfl rfl)
theorem dX55_test_8 : decode cX55_test 8 = .ok (.invokestatic 96, 3) := dk_184 0 96 (dk_at dksX55_test_0 8 rfl rfl)
theorem dX55_test_11 : decode cX55_test 11 = .ok (.ifCond .ne 5, 3) := dk_154 0 5 (dk_at dksX55_test_0 11 rfl rfl)
theorem dX55_test_14 : decode cX55_test 14 = .ok (.iconst (-1), 1) := dk_2 (dk_at dksX55_test_0 14 rfl rfl)
theorem dX55_test_15 : decode cX55_test 15 = .ok (.ireturn, 1) := dk_172 (dk_at dksX55_test_0 15 rfl rfl)
theorem dX55_test_16 : decode cX55_test 16 = .ok (.aload_n 0, 1) := dk_42 (dk_at dksX55_test_0 16 rfl rfl)
theorem dX55_test_17 : decode cX55_test 17 = .ok (.iconst (-1), 1) := dk_2 (dk_at dksX55_test_0 17 rfl rfl)
theorem dX55_test_18 : decode cX55_test 18 = .ok (.iconst 0, 1) := dk_3 (dk_at dksX55_test_0 18 rfl rfl)
theorem dX55_test_19 : decode cX55_test 19 = .ok (.invokevirtual 183, 3) := dk_182 0 183 (dk_at dksX55_test_0 19 rfl rfl)
theorem dX55_test_22 : decode cX55_test 22 = .ok (.lstore 4, 2) := dk_55 4 (dk_at dksX55_test_0 22 rfl rfl)
theorem dX55_test_24 : decode cX55_test 24 = .ok (.aload_n 0, 1) := dk_42 (dk_at dksX55_test_1 0 rfl rfl)
theorem dX55_test_25 : decode cX55_test 25 = .ok (.iload_n 1, 1) := dk_27 (dk_at dksX55_test_1 1 rfl rfl)
theorem dX55_test_26 : decode cX55_test 26 = .ok (.iconst 1, 1) := dk_4 (dk_at dksX55_test_1 2 rfl rfl)
theorem dX55_test_27 : decode cX55_test 27 = .ok (.invokevirtual 183, 3) := dk_182 0 183 (dk_at dksX55_test_1 3 rfl rfl)
theorem dX55_test_30 : decode cX55_test 30 = .ok (.lstore 6, 2) := dk_55 6 (dk_at dksX55_test_1 6 rfl rfl)
theorem dX55_test_32 : decode cX55_test 32 = .ok (.aload_n 0, 1) := dk_42 (dk_at dksX55_test_1 8 rfl rfl)
theorem dX55_test_33 : decode cX55_test 33 = .ok (.iload_n 1, 1) := dk_27 (dk_at dksX55_test_1 9 rfl rfl)
theorem dX55_test_34 : decode cX55_test 34 = .ok (.iconst 0, 1) := dk_3 (dk_at dksX55_test_1 10 rfl rfl)
theorem dX55_test_35 : decode cX55_test 35 = .ok (.invokevirtual 183, 3) := dk_182 0 183 (dk_at dksX55_test_1 11 rfl rfl)
theorem dX55_test_38 : decode cX55_test 38 = .ok (.lstore 8, 2) := dk_55 8 (dk_at dksX55_test_1 14 rfl rfl)
theorem dX55_test_40 : decode cX55_test 40 = .ok (.aload_n 0, 1) := dk_42 (dk_at dksX55_test_1 16 rfl rfl)
theorem dX55_test_41 : decode cX55_test 41 = .ok (.getfield 39, 3) := dk_180 0 39 (dk_at dksX55_test_1 17 rfl rfl)
theorem dX55_test_44 : decode cX55_test 44 = .ok (.iload_n 1, 1) := dk_27 (dk_at dksX55_test_1 20 rfl rfl)
theorem dX55_test_45 : decode cX55_test 45 = .ok (.iaload, 1) := dk_46 (dk_at dksX55_test_1 21 rfl rfl)
theorem dX55_test_46 : decode cX55_test 46 = .ok (.i2l, 1) := dk_133 (dk_at dksX55_test_1 22 rfl rfl)
theorem dX55_test_47 : decode cX55_test 47 = .ok (.lload 6, 2) := dk_22 6 (dk_at dksX55_test_2 0 rfl rfl)
theorem dX55_test_49 : decode cX55_test 49 = .ok (.lmul, 1) := dk_105 (dk_at dksX55_test_2 2 rfl rfl)
theorem dX55_test_50 : decode cX55_test 50 = .ok (.aload_n 0, 1) := dk_42 (dk_at dksX55_test_2 3 rfl rfl)
theorem dX55_test_51 : decode cX55_test 51 = .ok (.getfield 42, 3) := dk_180 0 42 (dk_at dksX55_test_2 4 rfl rfl)
theorem dX55_test_54 : decode cX55_test 54 = .ok (.iload_n 1, 1) := dk_27 (dk_at dksX55_test_2 7 rfl rfl)
theorem dX55_test_55 : decode cX55_test 55 = .ok (.iaload, 1) := dk_46 (dk_at dksX55_test_2 8 rfl rfl)
theorem dX55_test_56 : decode cX55_test 56 = .ok (.aload_n 0, 1) := dk_42 (dk_at dksX55_test_2 9 rfl rfl)
theorem dX55_test_57 : decode cX55_test 57 = .ok (.getfield 39, 3) := dk_180 0 39 (dk_at dksX55_test_2 10 rfl rfl)
theorem dX55_test_60 : decode cX55_test 60 = .ok (.iload_n 1, 1) := dk_27 (dk_at dksX55_test_2 13 rfl rfl)
theorem dX55_test_61 : decode cX55_test 61 = .ok (.iaload, 1) := dk_46 (dk_at dksX55_test_2 14 rfl rfl)
theorem dX55_test_62 : decode cX55_test 62 = .ok (.isub, 1) := dk_100 (dk_at dksX55_test_2 15 rfl rfl)
theorem dX55_test_63 : decode cX55_test 63 = .ok (.i2l, 1) := dk_133 (dk_at dksX55_test_2 16 rfl rfl)
theorem dX55_test_64 : decode cX55_test 64 = .ok (.lload 8, 2) := dk_22 8 (dk_at dksX55_test_2 17 rfl rfl)
theorem dX55_test_66 : decode cX55_test 66 = .ok (.lmul, 1) := dk_105 (dk_at dksX55_test_2 19 rfl rfl)
theorem dX55_test_67 : decode cX55_test 67 = .ok (.ladd, 1) := dk_97 (dk_at dksX55_test_2 20 rfl rfl)
theorem dX55_test_68 : decode cX55_test 68 = .ok (.aload_n 0, 1) := dk_42 (dk_at dksX55_test_2 21 rfl rfl)
theorem dX55_test_69 : decode cX55_test 69 = .ok (.getfield 42, 3) := dk_180 0 42 (dk_at dksX55_test_3 0 rfl rfl)
theorem dX55_test_72 : decode cX55_test 72 = .ok (.iload_n 1, 1) := dk_27 (dk_at dksX55_test_3 3 rfl rfl)
theorem dX55_test_73 : decode cX55_test 73 = .ok (.iaload, 1) := dk_46 (dk_at dksX55_test_3 4 rfl rfl)
theorem dX55_test_74 : decode cX55_test 74 = .ok (.i2l, 1) := dk_133 (dk_at dksX55_test_3 5 rfl rfl)
theorem dX55_test_75 : decode cX55_test 75 = .ok (.ldc2_w 133, 3) := dk_20 0 133 (dk_at dksX55_test_3 6 rfl rfl)
theorem dX55_test_78 : decode cX55_test 78 = .ok (.lmul, 1) := dk_105 (dk_at dksX55_test_3 9 rfl rfl)
theorem dX55_test_79 : decode cX55_test 79 = .ok (.lload_n 2, 1) := dk_32 (dk_at dksX55_test_3 10 rfl rfl)
theorem dX55_test_80 : decode cX55_test 80 = .ok (.lmul, 1) := dk_105 (dk_at dksX55_test_3 11 rfl rfl)
theorem dX55_test_81 : decode cX55_test 81 = .ok (.lsub, 1) := dk_101 (dk_at dksX55_test_3 12 rfl rfl)
theorem dX55_test_82 : decode cX55_test 82 = .ok (.lstore 10, 2) := dk_55 10 (dk_at dksX55_test_3 13 rfl rfl)
theorem dX55_test_84 : decode cX55_test 84 = .ok (.lload 10, 2) := dk_22 10 (dk_at dksX55_test_3 15 rfl rfl)
theorem dX55_test_86 : decode cX55_test 86 = .ok (.aload_n 0, 1) := dk_42 (dk_at dksX55_test_3 17 rfl rfl)
theorem dX55_test_87 : decode cX55_test 87 = .ok (.getfield 42, 3) := dk_180 0 42 (dk_at dksX55_test_3 18 rfl rfl)
theorem dX55_test_90 : decode cX55_test 90 = .ok (.iload_n 1, 1) := dk_27 (dk_at dksX55_test_3 21 rfl rfl)
theorem dX55_test_91 : decode cX55_test 91 = .ok (.iaload, 1) := dk_46 (dk_at dksX55_test_3 22 rfl rfl)
theorem dX55_test_92 : decode cX55_test 92 = .ok (.i2l, 1) := dk_133 (dk_at dksX55_test_3 23 rfl rfl)
theorem dX55_test_93 : decode cX55_test 93 = .ok (.lload 4, 2) := dk_22 4 (dk_at dksX55_test_4 0 rfl rfl)
theorem dX55_test_95 : decode cX55_test 95 = .ok (.lmul, 1) := dk_105 (dk_at dksX55_test_4 2 rfl rfl)
theorem dX55_test_96 : decode cX55_test 96 = .ok (.lcmp, 1) := dk_148 (dk_at dksX55_test_4 3 rfl rfl)
theorem dX55_test_97 : decode cX55_test 97 = .ok (.ifCond .le 7, 3) := dk_158 0 7 (dk_at dksX55_test_4 4 rfl rfl)
theorem dX55_test_100 : decode cX55_test 100 = .ok (.iconst 1, 1) := dk_4 (dk_at dksX55_test_4 7 rfl rfl)
theorem dX55_test_101 : decode cX55_test 101 = .ok (.goto 4, 3) := dk_167 0 4 (dk_at dksX55_test_4 8 rfl rfl)
theorem dX55_test_104 : decode cX55_test 104 = .ok (.iconst 0, 1) := dk_3 (dk_at dksX55_test_4 11 rfl rfl)
theorem dX55_test_105 : decode cX55_test 105 = .ok (.ireturn, 1) := dk_172 (dk_at dksX55_test_4 12 rfl rfl)
abbrev cX55_bestWith : ByteArray := prog_57_method_36_code
def yX55_bestWith : MethodName := ⟨RX55, "bestWith", "(II)J"⟩
def dkwX55_bestWith_1 : List UInt8 := [181, 0, 64, 33, 173]
abbrev dktX55_bestWith_1 : List UInt8 := dkwX55_bestWith_1 ++ []
def dkwX55_bestWith_0 : List UInt8 := [42, 27, 181, 0, 64, 42, 28, 181, 0, 130, 42, 182, 0, 163, 42, 3, 2, 9, 182, 0, 166, 66, 42, 2]
abbrev dktX55_bestWith_0 : List UInt8 := dkwX55_bestWith_0 ++ dktX55_bestWith_1
theorem dksX55_bestWith_0 : cX55_bestWith.data.toList.drop 0 = dktX55_bestWith_0 := by decide +kernel
theorem dksX55_bestWith_1 : cX55_bestWith.data.toList.drop 24 = dktX55_bestWith_1 := dk_seg dksX55_bestWith_0 24 rfl rfl
theorem dX55_bestWith_0 : decode cX55_bestWith 0 = .ok (.aload_n 0, 1) := dk_42 (dk_at dksX55_bestWith_0 0 rfl rfl)
theorem dX55_bestWith_1 : decode cX55_bestWith 1 = .ok (.iload_n 1, 1) := dk_27 (dk_at dksX55_bestWith_0 1 rfl rfl)
theorem dX55_bestWith_2 : decode cX55_bestWith 2 = .ok (.putfield 64, 3) := dk_181 0 64 (dk_at dksX55_bestWith_0 2 rfl rfl)
theorem dX55_bestWith_5 : decode cX55_bestWith 5 = .ok (.aload_n 0, 1) := dk_42 (dk_at dksX55_bestWith_0 5 rfl rfl)
theorem dX55_bestWith_6 : decode cX55_bestWith 6 = .ok (.iload_n 2, 1) := dk_28 (dk_at dksX55_bestWith_0 6 rfl rfl)
theorem dX55_bestWith_7 : decode cX55_bestWith 7 = .ok (.putfield 130, 3) := dk_181 0 130 (dk_at dksX55_bestWith_0 7 rfl rfl)
theorem dX55_bestWith_10 : decode cX55_bestWith 10 = .ok (.aload_n 0, 1) := dk_42 (dk_at dksX55_bestWith_0 10 rfl rfl)
theorem dX55_bestWith_11 : decode cX55_bestWith 11 = .ok (.invokevirtual 163, 3) := dk_182 0 163 (dk_at dksX55_bestWith_0 11 rfl rfl)
theorem dX55_bestWith_14 : decode cX55_bestWith 14 = .ok (.aload_n 0, 1) := dk_42 (dk_at dksX55_bestWith_0 14 rfl rfl)
theorem dX55_bestWith_15 : decode cX55_bestWith 15 = .ok (.iconst 0, 1) := dk_3 (dk_at dksX55_bestWith_0 15 rfl rfl)
theorem dX55_bestWith_16 : decode cX55_bestWith 16 = .ok (.iconst (-1), 1) := dk_2 (dk_at dksX55_bestWith_0 16 rfl rfl)
theorem dX55_bestWith_17 : decode cX55_bestWith 17 = .ok (.lconst 0, 1) := dk_9 (dk_at dksX55_bestWith_0 17 rfl rfl)
theorem dX55_bestWith_18 : decode cX55_bestWith 18 = .ok (.invokevirtual 166, 3) := dk_182 0 166 (dk_at dksX55_bestWith_0 18 rfl rfl)
theorem dX55_bestWith_21 : decode cX55_bestWith 21 = .ok (.lstore_n 3, 1) := dk_66 (dk_at dksX55_bestWith_0 21 rfl rfl)
theorem dX55_bestWith_22 : decode cX55_bestWith 22 = .ok (.aload_n 0, 1) := dk_42 (dk_at dksX55_bestWith_0 22 rfl rfl)
theorem dX55_bestWith_23 : decode cX55_bestWith 23 = .ok (.iconst (-1), 1) := dk_2 (dk_at dksX55_bestWith_0 23 rfl rfl)
theorem dX55_bestWith_24 : decode cX55_bestWith 24 = .ok (.putfield 64, 3) := dk_181 0 64 (dk_at dksX55_bestWith_1 0 rfl rfl)
theorem dX55_bestWith_27 : decode cX55_bestWith 27 = .ok (.lload_n 3, 1) := dk_33 (dk_at dksX55_bestWith_1 3 rfl rfl)
theorem dX55_bestWith_28 : decode cX55_bestWith 28 = .ok (.lreturn, 1) := dk_173 (dk_at dksX55_bestWith_1 4 rfl rfl)
abbrev cX55_stations : ByteArray := prog_57_method_40_code
def yX55_stations : MethodName := ⟨RX55, "stations", "(I)I"⟩
def dkwX55_stations_13 : List UInt8 := [181, 0, 196, 33, 136, 172]
abbrev dktX55_stations_13 : List UInt8 := dkwX55_stations_13 ++ []
def dkwX55_stations_12 : List UInt8 := [180, 0, 76, 21, 9, 46, 79, 132, 9, 1, 167, 255, 232, 167, 0, 6, 132, 5, 1, 167, 255, 101, 42, 4]
abbrev dktX55_stations_12 : List UInt8 := dkwX55_stations_12 ++ dktX55_stations_13
def dkwX55_stations_11 : List UInt8 := [160, 0, 39, 22, 7, 66, 3, 54, 9, 21, 9, 16, 10, 162, 0, 23, 42, 180, 0, 61, 21, 9, 42]
abbrev dktX55_stations_11 : List UInt8 := dkwX55_stations_11 ++ dktX55_stations_12
def dkwX55_stations_10 : List UInt8 := [148, 155, 0, 63, 33, 9, 148, 155, 0, 10, 22, 7, 33, 148, 156, 0, 50, 21, 5, 4, 96, 28]
abbrev dktX55_stations_10 : List UInt8 := dkwX55_stations_10 ++ dktX55_stations_11
def dkwX55_stations_9 : List UInt8 := [21, 6, 46, 27, 160, 0, 17, 42, 180, 0, 76, 21, 6, 2, 79, 132, 5, 255, 167, 0, 70, 22, 7, 9]
abbrev dktX55_stations_9 : List UInt8 := dkwX55_stations_9 ++ dktX55_stations_10
def dkwX55_stations_8 : List UInt8 := [153, 0, 14, 42, 42, 180, 0, 76, 182, 0, 192, 167, 0, 6, 20, 0, 186, 55, 7, 42, 180, 0, 76]
abbrev dktX55_stations_8 : List UInt8 := dkwX55_stations_8 ++ dktX55_stations_9
def dkwX55_stations_7 : List UInt8 := [4, 96, 79, 42, 180, 0, 76, 21, 6, 46, 27, 162, 0, 25, 42, 42, 180, 0, 76, 182, 0, 188]
abbrev dktX55_stations_7 : List UInt8 := dkwX55_stations_7 ++ dktX55_stations_8
def dkwX55_stations_6 : List UInt8 := [54, 5, 21, 5, 155, 0, 156, 42, 180, 0, 82, 21, 5, 46, 54, 6, 42, 180, 0, 76, 21, 6, 92, 46]
abbrev dktX55_stations_6 : List UInt8 := dkwX55_stations_6 ++ dktX55_stations_7
def dkwX55_stations_5 : List UInt8 := [167, 255, 208, 28, 154, 0, 7, 9, 167, 0, 6, 20, 0, 186, 66, 28, 154, 0, 7, 2, 167, 0, 4, 3]
abbrev dktX55_stations_5 : List UInt8 := dkwX55_stations_5 ++ dktX55_stations_6
def dkwX55_stations_4 : List UInt8 := [29, 104, 21, 4, 96, 42, 29, 21, 4, 182, 0, 107, 84, 132, 4, 1, 167, 255, 225, 132, 3, 1]
abbrev dktX55_stations_4 : List UInt8 := dkwX55_stations_4 ++ dktX55_stations_5
def dkwX55_stations_3 : List UInt8 := [180, 0, 89, 162, 0, 46, 3, 54, 4, 21, 4, 42, 180, 0, 89, 162, 0, 28, 42, 180, 0, 79, 16, 10]
abbrev dktX55_stations_3 : List UInt8 := dkwX55_stations_3 ++ dktX55_stations_4
def dkwX55_stations_2 : List UInt8 := [153, 0, 13, 42, 180, 0, 82, 28, 29, 79, 132, 2, 1, 132, 3, 1, 167, 255, 215, 3, 62, 29, 42]
abbrev dktX55_stations_2 : List UInt8 := dkwX55_stations_2 ++ dktX55_stations_3
def dkwX55_stations_1 : List UInt8 := [16, 10, 162, 0, 41, 42, 180, 0, 76, 29, 2, 79, 42, 180, 0, 61, 29, 2, 79, 42, 29, 182, 0, 180]
abbrev dktX55_stations_1 : List UInt8 := dkwX55_stations_1 ++ dktX55_stations_2
def dkwX55_stations_0 : List UInt8 := [42, 180, 0, 54, 155, 0, 13, 27, 4, 161, 0, 8, 27, 7, 164, 0, 5, 2, 172, 3, 61, 3, 62, 29]
abbrev dktX55_stations_0 : List UInt8 := dkwX55_stations_0 ++ dktX55_stations_1
theorem dksX55_stations_0 : cX55_stations.data.toList.drop 0 = dktX55_stations_0 := by decide +kernel
theorem dksX55_stations_1 : cX55_stations.data.toList.drop 24 = dktX55_stations_1 := dk_seg dksX55_stations_0 24 rfl rfl
theorem dksX55_stations_2 : cX55_stations.data.toList.drop 48 = dktX55_stations_2 := dk_seg dksX55_stations_1 24 rfl rfl
theorem dksX55_stations_3 : cX55_stations.data.toList.drop 71 = dktX55_stations_3 := dk_seg dksX55_stations_2 23 rfl rfl
theorem dksX55_stations_4 : cX55_stations.data.toList.drop 95 = dktX55_stations_4 := dk_seg dksX55_stations_3 24 rfl rfl
theorem dksX55_stations_5 : cX55_stations.data.toList.drop 117 = dktX55_stations_5 := dk_seg dksX55_stations_4 22 rfl rfl
theorem dksX55_stations_6 : cX55_stations.data.toList.drop 141 = dktX55_stations_6 := dk_seg dksX55_stations_5 24 rfl rfl
theorem dksX55_stations_7 : cX55_stations.data.toList.drop 165 = dktX55_stations_7 := dk_seg dksX55_stations_6 24 rfl rfl
theorem dksX55_stations_8 : cX55_stations.data.toList.drop 187 = dktX55_stations_8 := dk_seg dksX55_stations_7 22 rfl rfl
theorem dksX55_stations_9 : cX55_stations.data.toList.drop 210 = dktX55_stations_9 := dk_seg dksX55_stations_8 23 rfl rfl
theorem dksX55_stations_10 : cX55_stations.data.toList.drop 234 = dktX55_stations_10 := dk_seg dksX55_stations_9 24 rfl rfl
theorem dksX55_stations_11 : cX55_stations.data.toList.drop 256 = dktX55_stations_11 := dk_seg dksX55_stations_10 22 rfl rfl
theorem dksX55_stations_12 : cX55_stations.data.toList.drop 279 = dktX55_stations_12 := dk_seg dksX55_stations_11 23 rfl rfl
theorem dksX55_stations_13 : cX55_stations.data.toList.drop 303 = dktX55_stations_13 := dk_seg dksX55_stations_12 24 rfl rfl
theorem dX55_stations_0 : decode cX55_stations 0 = .ok (.aload_n 0, 1) := dk_42 (dk_at dksX55_stations_0 0 rfl rfl)
theorem dX55_stations_1 : decode cX55_stations 1 = .ok (.getfield 54, 3) := dk_180 0 54 (dk_at dksX55_stations_0 1 rfl rfl)
theorem dX55_stations_4 : decode cX55_stations 4 = .ok (.ifCond .lt 13, 3) := dk_155 0 13 (dk_at dksX55_stations_0 4 rfl rfl)
theorem dX55_stations_7 : decode cX55_stations 7 = .ok (.iload_n 1, 1) := dk_27 (dk_at dksX55_stations_0 7 rfl rfl)
theorem dX55_stations_8 : decode cX55_stations 8 = .ok (.iconst 1, 1) := dk_4 (dk_at dksX55_stations_0 8 rfl rfl)
theorem dX55_stations_9 : decode cX55_stations 9 = .ok (.if_icmp .lt 8, 3) := dk_161 0 8 (dk_at dksX55_stations_0 9 rfl rfl)
theorem dX55_stations_12 : decode cX55_stations 12 = .ok (.iload_n 1, 1) := dk_27 (dk_at dksX55_stations_0 12 rfl rfl)
theorem dX55_stations_13 : decode cX55_stations 13 = .ok (.iconst 4, 1) := dk_7 (dk_at dksX55_stations_0 13 rfl rfl)
theorem dX55_stations_14 : decode cX55_stations 14 = .ok (.if_icmp .le 5, 3) := dk_164 0 5 (dk_at dksX55_stations_0 14 rfl rfl)
theorem dX55_stations_17 : decode cX55_stations 17 = .ok (.iconst (-1), 1) := dk_2 (dk_at dksX55_stations_0 17 rfl rfl)
theorem dX55_stations_18 : decode cX55_stations 18 = .ok (.ireturn, 1) := dk_172 (dk_at dksX55_stations_0 18 rfl rfl)
theorem dX55_stations_19 : decode cX55_stations 19 = .ok (.iconst 0, 1) := dk_3 (dk_at dksX55_stations_0 19 rfl rfl)
theorem dX55_stations_20 : decode cX55_stations 20 = .ok (.istore_n 2, 1) := dk_61 (dk_at dksX55_stations_0 20 rfl rfl)
theorem dX55_stations_21 : decode cX55_stations 21 = .ok (.iconst 0, 1) := dk_3 (dk_at dksX55_stations_0 21 rfl rfl)
theorem dX55_stations_22 : decode cX55_stations 22 = .ok (.istore_n 3, 1) := dk_62 (dk_at dksX55_stations_0 22 rfl rfl)
theorem dX55_stations_23 : decode cX55_stations 23 = .ok (.iload_n 3, 1) := dk_29 (dk_at dksX55_stations_0 23 rfl rfl)
theorem dX55_stations_24 : decode cX55_stations 24 = .ok (.bipush 10, 2) := dk_16 10 (dk_at dksX55_stations_1 0 rfl rfl)
theorem dX55_stations_26 : decode cX55_stations 26 = .ok (.if_icmp .ge 41, 3) := dk_162 0 41 (dk_at dksX55_stations_1 2 rfl rfl)
theorem dX55_stations_29 : decode cX55_stations 29 = .ok (.aload_n 0, 1) := dk_42 (dk_at dksX55_stations_1 5 rfl rfl)
theorem dX55_stations_30 : decode cX55_stations 30 = .ok (.getfield 76, 3) := dk_180 0 76 (dk_at dksX55_stations_1 6 rfl rfl)
theorem dX55_stations_33 : decode cX55_stations 33 = .ok (.iload_n 3, 1) := dk_29 (dk_at dksX55_stations_1 9 rfl rfl)
theorem dX55_stations_34 : decode cX55_stations 34 = .ok (.iconst (-1), 1) := dk_2 (dk_at dksX55_stations_1 10 rfl rfl)
theorem dX55_stations_35 : decode cX55_stations 35 = .ok (.iastore, 1) := dk_79 (dk_at dksX55_stations_1 11 rfl rfl)
theorem dX55_stations_36 : decode cX55_stations 36 = .ok (.aload_n 0, 1) := dk_42 (dk_at dksX55_stations_1 12 rfl rfl)
theorem dX55_stations_37 : decode cX55_stations 37 = .ok (.getfield 61, 3) := dk_180 0 61 (dk_at dksX55_stations_1 13 rfl rfl)
theorem dX55_stations_40 : decode cX55_stations 40 = .ok (.iload_n 3, 1) := dk_29 (dk_at dksX55_stations_1 16 rfl rfl)
theorem dX55_stations_41 : decode cX55_stations 41 = .ok (.iconst (-1), 1) := dk_2 (dk_at dksX55_stations_1 17 rfl rfl)
theorem dX55_stations_42 : decode cX55_stations 42 = .ok (.iastore, 1) := dk_79 (dk_at dksX55_stations_1 18 rfl rfl)
theorem dX55_stations_43 : decode cX55_stations 43 = .ok (.aload_n 0, 1) := dk_42 (dk_at dksX55_stations_1 19 rfl rfl)
theorem dX55_stations_44 : decode cX55_stations 44 = .ok (.iload_n 3, 1) := dk_29 (dk_at dksX55_stations_1 20 rfl rfl)
theorem dX55_stations_45 : decode cX55_stations 45 = .ok (.invokevirtual 180, 3) := dk_182 0 180 (dk_at dksX55_stations_1 21 rfl rfl)
theorem dX55_stations_48 : decode cX55_stations 48 = .ok (.ifCond .eq 13, 3) := dk_153 0 13 (dk_at dksX55_stations_2 0 rfl rfl)
theorem dX55_stations_51 : decode cX55_stations 51 = .ok (.aload_n 0, 1) := dk_42 (dk_at dksX55_stations_2 3 rfl rfl)
theorem dX55_stations_52 : decode cX55_stations 52 = .ok (.getfield 82, 3) := dk_180 0 82 (dk_at dksX55_stations_2 4 rfl rfl)
theorem dX55_stations_55 : decode cX55_stations 55 = .ok (.iload_n 2, 1) := dk_28 (dk_at dksX55_stations_2 7 rfl rfl)
theorem dX55_stations_56 : decode cX55_stations 56 = .ok (.iload_n 3, 1) := dk_29 (dk_at dksX55_stations_2 8 rfl rfl)
theorem dX55_stations_57 : decode cX55_stations 57 = .ok (.iastore, 1) := dk_79 (dk_at dksX55_stations_2 9 rfl rfl)
theorem dX55_stations_58 : decode cX55_stations 58 = .ok (.iinc 2 1, 3) := dk_132 2 1 (dk_at dksX55_stations_2 10 rfl rfl)
theorem dX55_stations_61 : decode cX55_stations 61 = .ok (.iinc 3 1, 3) := dk_132 3 1 (dk_at dksX55_stations_2 13 rfl rfl)
theorem dX55_stations_64 : decode cX55_stations 64 = .ok (.goto (-41), 3) := dk_167 255 215 (dk_at dksX55_stations_2 16 rfl rfl)
theorem dX55_stations_67 : decode cX55_stations 67 = .ok (.iconst 0, 1) := dk_3 (dk_at dksX55_stations_2 19 rfl rfl)
theorem dX55_stations_68 : decode cX55_stations 68 = .ok (.istore_n 3, 1) := dk_62 (dk_at dksX55_stations_2 20 rfl rfl)
theorem dX55_stations_69 : decode cX55_stations 69 = .ok (.iload_n 3, 1) := dk_29 (dk_at dksX55_stations_2 21 rfl rfl)
theorem dX55_stations_70 : decode cX55_stations 70 = .ok (.aload_n 0, 1) := dk_42 (dk_at dksX55_stations_2 22 rfl rfl)
theorem dX55_stations_71 : decode cX55_stations 71 = .ok (.getfield 89, 3) := dk_180 0 89 (dk_at dksX55_stations_3 0 rfl rfl)
theorem dX55_stations_74 : decode cX55_stations 74 = .ok (.if_icmp .ge 46, 3) := dk_162 0 46 (dk_at dksX55_stations_3 3 rfl rfl)
theorem dX55_stations_77 : decode cX55_stations 77 = .ok (.iconst 0, 1) := dk_3 (dk_at dksX55_stations_3 6 rfl rfl)
theorem dX55_stations_78 : decode cX55_stations 78 = .ok (.istore 4, 2) := dk_54 4 (dk_at dksX55_stations_3 7 rfl rfl)
theorem dX55_stations_80 : decode cX55_stations 80 = .ok (.iload 4, 2) := dk_21 4 (dk_at dksX55_stations_3 9 rfl rfl)
theorem dX55_stations_82 : decode cX55_stations 82 = .ok (.aload_n 0, 1) := dk_42 (dk_at dksX55_stations_3 11 rfl rfl)
theorem dX55_stations_83 : decode cX55_stations 83 = .ok (.getfield 89, 3) := dk_180 0 89 (dk_at dksX55_stations_3 12 rfl rfl)
theorem dX55_stations_86 : decode cX55_stations 86 = .ok (.if_icmp .ge 28, 3) := dk_162 0 28 (dk_at dksX55_stations_3 15 rfl rfl)
theorem dX55_stations_89 : decode cX55_stations 89 = .ok (.aload_n 0, 1) := dk_42 (dk_at dksX55_stations_3 18 rfl rfl)
theorem dX55_stations_90 : decode cX55_stations 90 = .ok (.getfield 79, 3) := dk_180 0 79 (dk_at dksX55_stations_3 19 rfl rfl)
theorem dX55_stations_93 : decode cX55_stations 93 = .ok (.bipush 10, 2) := dk_16 10 (dk_at dksX55_stations_3 22 rfl rfl)
theorem dX55_stations_95 : decode cX55_stations 95 = .ok (.iload_n 3, 1) := dk_29 (dk_at dksX55_stations_4 0 rfl rfl)
theorem dX55_stations_96 : decode cX55_stations 96 = .ok (.imul, 1) := dk_104 (dk_at dksX55_stations_4 1 rfl rfl)
theorem dX55_stations_97 : decode cX55_stations 97 = .ok (.iload 4, 2) := dk_21 4 (dk_at dksX55_stations_4 2 rfl rfl)
theorem dX55_stations_99 : decode cX55_stations 99 = .ok (.iadd, 1) := dk_96 (dk_at dksX55_stations_4 4 rfl rfl)
theorem dX55_stations_100 : decode cX55_stations 100 = .ok (.aload_n 0, 1) := dk_42 (dk_at dksX55_stations_4 5 rfl rfl)
theorem dX55_stations_101 : decode cX55_stations 101 = .ok (.iload_n 3, 1) := dk_29 (dk_at dksX55_stations_4 6 rfl rfl)
theorem dX55_stations_102 : decode cX55_stations 102 = .ok (.iload 4, 2) := dk_21 4 (dk_at dksX55_stations_4 7 rfl rfl)
theorem dX55_stations_104 : decode cX55_stations 104 = .ok (.invokevirtual 107, 3) := dk_182 0 107 (dk_at dksX55_stations_4 9 rfl rfl)
theorem dX55_stations_107 : decode cX55_stations 107 = .ok (.bastore, 1) := dk_84 (dk_at dksX55_stations_4 12 rfl rfl)
theorem dX55_stations_108 : decode cX55_stations 108 = .ok (.iinc 4 1, 3) := dk_132 4 1 (dk_at dksX55_stations_4 13 rfl rfl)
theorem dX55_stations_111 : decode cX55_stations 111 = .ok (.goto (-31), 3) := dk_167 255 225 (dk_at dksX55_stations_4 16 rfl rfl)
theorem dX55_stations_114 : decode cX55_stations 114 = .ok (.iinc 3 1, 3) := dk_132 3 1 (dk_at dksX55_stations_4 19 rfl rfl)
theorem dX55_stations_117 : decode cX55_stations 117 = .ok (.goto (-48), 3) := dk_167 255 208 (dk_at dksX55_stations_5 0 rfl rfl)
theorem dX55_stations_120 : decode cX55_stations 120 = .ok (.iload_n 2, 1) := dk_28 (dk_at dksX55_stations_5 3 rfl rfl)
theorem dX55_stations_121 : decode cX55_stations 121 = .ok (.ifCond .ne 7, 3) := dk_154 0 7 (dk_at dksX55_stations_5 4 rfl rfl)
theorem dX55_stations_124 : decode cX55_stations 124 = .ok (.lconst 0, 1) := dk_9 (dk_at dksX55_stations_5 7 rfl rfl)
theorem dX55_stations_125 : decode cX55_stations 125 = .ok (.goto 6, 3) := dk_167 0 6 (dk_at dksX55_stations_5 8 rfl rfl)
theorem dX55_stations_128 : decode cX55_stations 128 = .ok (.ldc2_w 186, 3) := dk_20 0 186 (dk_at dksX55_stations_5 11 rfl rfl)
theorem dX55_stations_131 : decode cX55_stations 131 = .ok (.lstore_n 3, 1) := dk_66 (dk_at dksX55_stations_5 14 rfl rfl)
theorem dX55_stations_132 : decode cX55_stations 132 = .ok (.iload_n 2, 1) := dk_28 (dk_at dksX55_stations_5 15 rfl rfl)
theorem dX55_stations_133 : decode cX55_stations 133 = .ok (.ifCond .ne 7, 3) := dk_154 0 7 (dk_at dksX55_stations_5 16 rfl rfl)
theorem dX55_stations_136 : decode cX55_stations 136 = .ok (.iconst (-1), 1) := dk_2 (dk_at dksX55_stations_5 19 rfl rfl)
theorem dX55_stations_137 : decode cX55_stations 137 = .ok (.goto 4, 3) := dk_167 0 4 (dk_at dksX55_stations_5 20 rfl rfl)
theorem dX55_stations_140 : decode cX55_stations 140 = .ok (.iconst 0, 1) := dk_3 (dk_at dksX55_stations_5 23 rfl rfl)
theorem dX55_stations_141 : decode cX55_stations 141 = .ok (.istore 5, 2) := dk_54 5 (dk_at dksX55_stations_6 0 rfl rfl)
theorem dX55_stations_143 : decode cX55_stations 143 = .ok (.iload 5, 2) := dk_21 5 (dk_at dksX55_stations_6 2 rfl rfl)
theorem dX55_stations_145 : decode cX55_stations 145 = .ok (.ifCond .lt 156, 3) := dk_155 0 156 (dk_at dksX55_stations_6 4 rfl rfl)
theorem dX55_stations_148 : decode cX55_stations 148 = .ok (.aload_n 0, 1) := dk_42 (dk_at dksX55_stations_6 7 rfl rfl)
theorem dX55_stations_149 : decode cX55_stations 149 = .ok (.getfield 82, 3) := dk_180 0 82 (dk_at dksX55_stations_6 8 rfl rfl)
theorem dX55_stations_152 : decode cX55_stations 152 = .ok (.iload 5, 2) := dk_21 5 (dk_at dksX55_stations_6 11 rfl rfl)
theorem dX55_stations_154 : decode cX55_stations 154 = .ok (.iaload, 1) := dk_46 (dk_at dksX55_stations_6 13 rfl rfl)
theorem dX55_stations_155 : decode cX55_stations 155 = .ok (.istore 6, 2) := dk_54 6 (dk_at dksX55_stations_6 14 rfl rfl)
theorem dX55_stations_157 : decode cX55_stations 157 = .ok (.aload_n 0, 1) := dk_42 (dk_at dksX55_stations_6 16 rfl rfl)
theorem dX55_stations_158 : decode cX55_stations 158 = .ok (.getfield 76, 3) := dk_180 0 76 (dk_at dksX55_stations_6 17 rfl rfl)
theorem dX55_stations_161 : decode cX55_stations 161 = .ok (.iload 6, 2) := dk_21 6 (dk_at dksX55_stations_6 20 rfl rfl)
theorem dX55_stations_163 : decode cX55_stations 163 = .ok (.dup2, 1) := dk_92 (dk_at dksX55_stations_6 22 rfl rfl)
theorem dX55_stations_164 : decode cX55_stations 164 = .ok (.iaload, 1) := dk_46 (dk_at dksX55_stations_6 23 rfl rfl)
theorem dX55_stations_165 : decode cX55_stations 165 = .ok (.iconst 1, 1) := dk_4 (dk_at dksX55_stations_7 0 rfl rfl)
theorem dX55_stations_166 : decode cX55_stations 166 = .ok (.iadd, 1) := dk_96 (dk_at dksX55_stations_7 1 rfl rfl)
theorem dX55_stations_167 : decode cX55_stations 167 = .ok (.iastore, 1) := dk_79 (dk_at dksX55_stations_7 2 rfl rfl)
theorem dX55_stations_168 : decode cX55_stations 168 = .ok (.aload_n 0, 1) := dk_42 (dk_at dksX55_stations_7 3 rfl rfl)
theorem dX55_stations_169 : decode cX55_stations 169 = .ok (.getfield 76, 3) := dk_180 0 76 (dk_at dksX55_stations_7 4 rfl rfl)
theorem dX55_stations_172 : decode cX55_stations 172 = .ok (.iload 6, 2) := dk_21 6 (dk_at dksX55_stations_7 7 rfl rfl)
theorem dX55_stations_174 : decode cX55_stations 174 = .ok (.iaload, 1) := dk_46 (dk_at dksX55_stations_7 9 rfl rfl)
theorem dX55_stations_175 : decode cX55_stations 175 = .ok (.iload_n 1, 1) := dk_27 (dk_at dksX55_stations_7 10 rfl rfl)
theorem dX55_stations_176 : decode cX55_stations 176 = .ok (.if_icmp .ge 25, 3) := dk_162 0 25 (dk_at dksX55_stations_7 11 rfl rfl)
theorem dX55_stations_179 : decode cX55_stations 179 = .ok (.aload_n 0, 1) := dk_42 (dk_at dksX55_stations_7 14 rfl rfl)
theorem dX55_stations_180 : decode cX55_stations 180 = .ok (.aload_n 0, 1) := dk_42 (dk_at dksX55_stations_7 15 rfl rfl)
theorem dX55_stations_181 : decode cX55_stations 181 = .ok (.getfield 76, 3) := dk_180 0 76 (dk_at dksX55_stations_7 16 rfl rfl)
theorem dX55_stations_184 : decode cX55_stations 184 = .ok (.invokevirtual 188, 3) := dk_182 0 188 (dk_at dksX55_stations_7 19 rfl rfl)
theorem dX55_stations_187 : decode cX55_stations 187 = .ok (.ifCond .eq 14, 3) := dk_153 0 14 (dk_at dksX55_stations_8 0 rfl rfl)
theorem dX55_stations_190 : decode cX55_stations 190 = .ok (.aload_n 0, 1) := dk_42 (dk_at dksX55_stations_8 3 rfl rfl)
theorem dX55_stations_191 : decode cX55_stations 191 = .ok (.aload_n 0, 1) := dk_42 (dk_at dksX55_stations_8 4 rfl rfl)
theorem dX55_stations_192 : decode cX55_stations 192 = .ok (.getfield 76, 3) := dk_180 0 76 (dk_at dksX55_stations_8 5 rfl rfl)
theorem dX55_stations_195 : decode cX55_stations 195 = .ok (.invokevirtual 192, 3) := dk_182 0 192 (dk_at dksX55_stations_8 8 rfl rfl)
theorem dX55_stations_198 : decode cX55_stations 198 = .ok (.goto 6, 3) := dk_167 0 6 (dk_at dksX55_stations_8 11 rfl rfl)
theorem dX55_stations_201 : decode cX55_stations 201 = .ok (.ldc2_w 186, 3) := dk_20 0 186 (dk_at dksX55_stations_8 14 rfl rfl)
theorem dX55_stations_204 : decode cX55_stations 204 = .ok (.lstore 7, 2) := dk_55 7 (dk_at dksX55_stations_8 17 rfl rfl)
theorem dX55_stations_206 : decode cX55_stations 206 = .ok (.aload_n 0, 1) := dk_42 (dk_at dksX55_stations_8 19 rfl rfl)
theorem dX55_stations_207 : decode cX55_stations 207 = .ok (.getfield 76, 3) := dk_180 0 76 (dk_at dksX55_stations_8 20 rfl rfl)
theorem dX55_stations_210 : decode cX55_stations 210 = .ok (.iload 6, 2) := dk_21 6 (dk_at dksX55_stations_9 0 rfl rfl)
theorem dX55_stations_212 : decode cX55_stations 212 = .ok (.iaload, 1) := dk_46 (dk_at dksX55_stations_9 2 rfl rfl)
theorem dX55_stations_213 : decode cX55_stations 213 = .ok (.iload_n 1, 1) := dk_27 (dk_at dksX55_stations_9 3 rfl rfl)
theorem dX55_stations_214 : decode cX55_stations 214 = .ok (.if_icmp .ne 17, 3) := dk_160 0 17 (dk_at dksX55_stations_9 4 rfl rfl)
theorem dX55_stations_217 : decode cX55_stations 217 = .ok (.aload_n 0, 1) := dk_42 (dk_at dksX55_stations_9 7 rfl rfl)
theorem dX55_stations_218 : decode cX55_stations 218 = .ok (.getfield 76, 3) := dk_180 0 76 (dk_at dksX55_stations_9 8 rfl rfl)
theorem dX55_stations_221 : decode cX55_stations 221 = .ok (.iload 6, 2) := dk_21 6 (dk_at dksX55_stations_9 11 rfl rfl)
theorem dX55_stations_223 : decode cX55_stations 223 = .ok (.iconst (-1), 1) := dk_2 (dk_at dksX55_stations_9 13 rfl rfl)
theorem dX55_stations_224 : decode cX55_stations 224 = .ok (.iastore, 1) := dk_79 (dk_at dksX55_stations_9 14 rfl rfl)
theorem dX55_stations_225 : decode cX55_stations 225 = .ok (.iinc 5 (-1), 3) := dk_132 5 255 (dk_at dksX55_stations_9 15 rfl rfl)
theorem dX55_stations_228 : decode cX55_stations 228 = .ok (.goto 70, 3) := dk_167 0 70 (dk_at dksX55_stations_9 18 rfl rfl)
theorem dX55_stations_231 : decode cX55_stations 231 = .ok (.lload 7, 2) := dk_22 7 (dk_at dksX55_stations_9 21 rfl rfl)
theorem dX55_stations_233 : decode cX55_stations 233 = .ok (.lconst 0, 1) := dk_9 (dk_at dksX55_stations_9 23 rfl rfl)
theorem dX55_stations_234 : decode cX55_stations 234 = .ok (.lcmp, 1) := dk_148 (dk_at dksX55_stations_10 0 rfl rfl)
theorem dX55_stations_235 : decode cX55_stations 235 = .ok (.ifCond .lt 63, 3) := dk_155 0 63 (dk_at dksX55_stations_10 1 rfl rfl)
theorem dX55_stations_238 : decode cX55_stations 238 = .ok (.lload_n 3, 1) := dk_33 (dk_at dksX55_stations_10 4 rfl rfl)
theorem dX55_stations_239 : decode cX55_stations 239 = .ok (.lconst 0, 1) := dk_9 (dk_at dksX55_stations_10 5 rfl rfl)
theorem dX55_stations_240 : decode cX55_stations 240 = .ok (.lcmp, 1) := dk_148 (dk_at dksX55_stations_10 6 rfl rfl)
theorem dX55_stations_241 : decode cX55_stations 241 = .ok (.ifCond .lt 10, 3) := dk_155 0 10 (dk_at dksX55_stations_10 7 rfl rfl)
theorem dX55_stations_244 : decode cX55_stations 244 = .ok (.lload 7, 2) := dk_22 7 (dk_at dksX55_stations_10 10 rfl rfl)
theorem dX55_stations_246 : decode cX55_stations 246 = .ok (.lload_n 3, 1) := dk_33 (dk_at dksX55_stations_10 12 rfl rfl)
theorem dX55_stations_247 : decode cX55_stations 247 = .ok (.lcmp, 1) := dk_148 (dk_at dksX55_stations_10 13 rfl rfl)
theorem dX55_stations_248 : decode cX55_stations 248 = .ok (.ifCond .ge 50, 3) := dk_156 0 50 (dk_at dksX55_stations_10 14 rfl rfl)
theorem dX55_stations_251 : decode cX55_stations 251 = .ok (.iload 5, 2) := dk_21 5 (dk_at dksX55_stations_10 17 rfl rfl)
theorem dX55_stations_253 : decode cX55_stations 253 = .ok (.iconst 1, 1) := dk_4 (dk_at dksX55_stations_10 19 rfl rfl)
theorem dX55_stations_254 : decode cX55_stations 254 = .ok (.iadd, 1) := dk_96 (dk_at dksX55_stations_10 20 rfl rfl)
theorem dX55_stations_255 : decode cX55_stations 255 = .ok (.iload_n 2, 1) := dk_28 (dk_at dksX55_stations_10 21 rfl rfl)
theorem dX55_stations_256 : decode cX55_stations 256 = .ok (.if_icmp .ne 39, 3) := dk_160 0 39 (dk_at dksX55_stations_11 0 rfl rfl)
theorem dX55_stations_259 : decode cX55_stations 259 = .ok (.lload 7, 2) := dk_22 7 (dk_at dksX55_stations_11 3 rfl rfl)
theorem dX55_stations_261 : decode cX55_stations 261 = .ok (.lstore_n 3, 1) := dk_66 (dk_at dksX55_stations_11 5 rfl rfl)
theorem dX55_stations_262 : decode cX55_stations 262 = .ok (.iconst 0, 1) := dk_3 (dk_at dksX55_stations_11 6 rfl rfl)
theorem dX55_stations_263 : decode cX55_stations 263 = .ok (.istore 9, 2) := dk_54 9 (dk_at dksX55_stations_11 7 rfl rfl)
theorem dX55_stations_265 : decode cX55_stations 265 = .ok (.iload 9, 2) := dk_21 9 (dk_at dksX55_stations_11 9 rfl rfl)
theorem dX55_stations_267 : decode cX55_stations 267 = .ok (.bipush 10, 2) := dk_16 10 (dk_at dksX55_stations_11 11 rfl rfl)
theorem dX55_stations_269 : decode cX55_stations 269 = .ok (.if_icmp .ge 23, 3) := dk_162 0 23 (dk_at dksX55_stations_11 13 rfl rfl)
theorem dX55_stations_272 : decode cX55_stations 272 = .ok (.aload_n 0, 1) := dk_42 (dk_at dksX55_stations_11 16 rfl rfl)
theorem dX55_stations_273 : decode cX55_stations 273 = .ok (.getfield 61, 3) := dk_180 0 61 (dk_at dksX55_stations_11 17 rfl rfl)
theorem dX55_stations_276 : decode cX55_stations 276 = .ok (.iload 9, 2) := dk_21 9 (dk_at dksX55_stations_11 20 rfl rfl)
theorem dX55_stations_278 : decode cX55_stations 278 = .ok (.aload_n 0, 1) := dk_42 (dk_at dksX55_stations_11 22 rfl rfl)
theorem dX55_stations_279 : decode cX55_stations 279 = .ok (.getfield 76, 3) := dk_180 0 76 (dk_at dksX55_stations_12 0 rfl rfl)
theorem dX55_stations_282 : decode cX55_stations 282 = .ok (.iload 9, 2) := dk_21 9 (dk_at dksX55_stations_12 3 rfl rfl)
theorem dX55_stations_284 : decode cX55_stations 284 = .ok (.iaload, 1) := dk_46 (dk_at dksX55_stations_12 5 rfl rfl)
theorem dX55_stations_285 : decode cX55_stations 285 = .ok (.iastore, 1) := dk_79 (dk_at dksX55_stations_12 6 rfl rfl)
theorem dX55_stations_286 : decode cX55_stations 286 = .ok (.iinc 9 1, 3) := dk_132 9 1 (dk_at dksX55_stations_12 7 rfl rfl)
theorem dX55_stations_289 : decode cX55_stations 289 = .ok (.goto (-24), 3) := dk_167 255 232 (dk_at dksX55_stations_12 10 rfl rfl)
theorem dX55_stations_292 : decode cX55_stations 292 = .ok (.goto 6, 3) := dk_167 0 6 (dk_at dksX55_stations_12 13 rfl rfl)
theorem dX55_stations_295 : decode cX55_stations 295 = .ok (.iinc 5 1, 3) := dk_132 5 1 (dk_at dksX55_stations_12 16 rfl rfl)
theorem dX55_stations_298 : decode cX55_stations 298 = .ok (.goto (-155), 3) := dk_167 255 101 (dk_at dksX55_stations_12 19 rfl rfl)
theorem dX55_stations_301 : decode cX55_stations 301 = .ok (.aload_n 0, 1) := dk_42 (dk_at dksX55_stations_12 22 rfl rfl)
theorem dX55_stations_302 : decode cX55_stations 302 = .ok (.iconst 1, 1) := dk_4 (dk_at dksX55_stations_12 23 rfl rfl)
theorem dX55_stations_303 : decode cX55_stations 303 = .ok (.putfield 196, 3) := dk_181 0 196 (dk_at dksX55_stations_13 0 rfl rfl)
theorem dX55_stations_306 : decode cX55_stations 306 = .ok (.lload_n 3, 1) := dk_33 (dk_at dksX55_stations_13 3 rfl rfl)
theorem dX55_stations_307 : decode cX55_stations 307 = .ok (.l2i, 1) := dk_136 (dk_at dksX55_stations_13 4 rfl rfl)
theorem dX55_stations_308 : decode cX55_stations 308 = .ok (.ireturn, 1) := dk_172 (dk_at dksX55_stations_13 5 rfl rfl)
abbrev cX55_keeps : ByteArray := prog_57_method_38_code
def yX55_keeps : MethodName := ⟨RX55, "keeps", "([I)Z"⟩
def dkwX55_keeps_3 : List UInt8 := [132, 4, 1, 167, 255, 196, 132, 3, 1, 167, 255, 179, 28, 172]
abbrev dktX55_keeps_3 : List UInt8 := dkwX55_keeps_3 ++ []
def dkwX55_keeps_2 : List UInt8 := [104, 21, 4, 96, 51, 153, 0, 13, 43, 21, 4, 46, 43, 29, 46, 163, 0, 7, 4, 167, 0, 4, 3, 61]
abbrev dktX55_keeps_2 : List UInt8 := dkwX55_keeps_2 ++ dktX55_keeps_3
def dkwX55_keeps_1 : List UInt8 := [28, 153, 0, 45, 43, 29, 46, 155, 0, 35, 43, 21, 4, 46, 155, 0, 28, 42, 180, 0, 79, 16, 10, 29]
abbrev dktX55_keeps_1 : List UInt8 := dkwX55_keeps_1 ++ dktX55_keeps_2
def dkwX55_keeps_0 : List UInt8 := [4, 61, 3, 62, 29, 42, 180, 0, 89, 162, 0, 75, 3, 54, 4, 21, 4, 42, 180, 0, 89, 162, 0, 57]
abbrev dktX55_keeps_0 : List UInt8 := dkwX55_keeps_0 ++ dktX55_keeps_1
theorem dksX55_keeps_0 : cX55_keeps.data.toList.drop 0 = dktX55_keeps_0 := by decide +kernel
theorem dksX55_keeps_1 : cX55_keeps.data.toList.drop 24 = dktX55_keeps_1 := dk_seg dksX55_keeps_0 24 rfl rfl
theorem dksX55_keeps_2 : cX55_keeps.data.toList.drop 48 = dktX55_keeps_2 := dk_seg dksX55_keeps_1 24 rfl rfl
theorem dksX55_keeps_3 : cX55_keeps.data.toList.drop 72 = dktX55_keeps_3 := dk_seg dksX55_keeps_2 24 rfl rfl
theorem dX55_keeps_0 : decode cX55_keeps 0 = .ok (.iconst 1, 1) := dk_4 (dk_at dksX55_keeps_0 0 rfl rfl)
theorem dX55_keeps_1 : decode cX55_keeps 1 = .ok (.istore_n 2, 1) := dk_61 (dk_at dksX55_keeps_0 1 rfl rfl)
theorem dX55_keeps_2 : decode cX55_keeps 2 = .ok (.iconst 0, 1) := dk_3 (dk_at dksX55_keeps_0 2 rfl rfl)
theorem dX55_keeps_3 : decode cX55_keeps 3 = .ok (.istore_n 3, 1) := dk_62 (dk_at dksX55_keeps_0 3 rfl rfl)
theorem dX55_keeps_4 : decode cX55_keeps 4 = .ok (.iload_n 3, 1) := dk_29 (dk_at dksX55_keeps_0 4 rfl rfl)
theorem dX55_keeps_5 : decode cX55_keeps 5 = .ok (.aload_n 0, 1) := dk_42 (dk_at dksX55_keeps_0 5 rfl rfl)
theorem dX55_keeps_6 : decode cX55_keeps 6 = .ok (.getfield 89, 3) := dk_180 0 89 (dk_at dksX55_keeps_0 6 rfl rfl)
theorem dX55_keeps_9 : decode cX55_keeps 9 = .ok (.if_icmp .ge 75, 3) := dk_162 0 75 (dk_at dksX55_keeps_0 9 rfl rfl)
theorem dX55_keeps_12 : decode cX55_keeps 12 = .ok (.iconst 0, 1) := dk_3 (dk_at dksX55_keeps_0 12 rfl rfl)
theorem dX55_keeps_13 : decode cX55_keeps 13 = .ok (.istore 4, 2) := dk_54 4 (dk_at dksX55_keeps_0 13 rfl rfl)
theorem dX55_keeps_15 : decode cX55_keeps 15 = .ok (.iload 4, 2) := dk_21 4 (dk_at dksX55_keeps_0 15 rfl rfl)
theorem dX55_keeps_17 : decode cX55_keeps 17 = .ok (.aload_n 0, 1) := dk_42 (dk_at dksX55_keeps_0 17 rfl rfl)
theorem dX55_keeps_18 : decode cX55_keeps 18 = .ok (.getfield 89, 3) := dk_180 0 89 (dk_at dksX55_keeps_0 18 rfl rfl)
theorem dX55_keeps_21 : decode cX55_keeps 21 = .ok (.if_icmp .ge 57, 3) := dk_162 0 57 (dk_at dksX55_keeps_0 21 rfl rfl)
theorem dX55_keeps_24 : decode cX55_keeps 24 = .ok (.iload_n 2, 1) := dk_28 (dk_at dksX55_keeps_1 0 rfl rfl)
theorem dX55_keeps_25 : decode cX55_keeps 25 = .ok (.ifCond .eq 45, 3) := dk_153 0 45 (dk_at dksX55_keeps_1 1 rfl rfl)
theorem dX55_keeps_28 : decode cX55_keeps 28 = .ok (.aload_n 1, 1) := dk_43 (dk_at dksX55_keeps_1 4 rfl rfl)
theorem dX55_keeps_29 : decode cX55_keeps 29 = .ok (.iload_n 3, 1) := dk_29 (dk_at dksX55_keeps_1 5 rfl rfl)
theorem dX55_keeps_30 : decode cX55_keeps 30 = .ok (.iaload, 1) := dk_46 (dk_at dksX55_keeps_1 6 rfl rfl)
theorem dX55_keeps_31 : decode cX55_keeps 31 = .ok (.ifCond .lt 35, 3) := dk_155 0 35 (dk_at dksX55_keeps_1 7 rfl rfl)
theorem dX55_keeps_34 : decode cX55_keeps 34 = .ok (.aload_n 1, 1) := dk_43 (dk_at dksX55_keeps_1 10 rfl rfl)
theorem dX55_keeps_35 : decode cX55_keeps 35 = .ok (.iload 4, 2) := dk_21 4 (dk_at dksX55_keeps_1 11 rfl rfl)
theorem dX55_keeps_37 : decode cX55_keeps 37 = .ok (.iaload, 1) := dk_46 (dk_at dksX55_keeps_1 13 rfl rfl)
theorem dX55_keeps_38 : decode cX55_keeps 38 = .ok (.ifCond .lt 28, 3) := dk_155 0 28 (dk_at dksX55_keeps_1 14 rfl rfl)
theorem dX55_keeps_41 : decode cX55_keeps 41 = .ok (.aload_n 0, 1) := dk_42 (dk_at dksX55_keeps_1 17 rfl rfl)
theorem dX55_keeps_42 : decode cX55_keeps 42 = .ok (.getfield 79, 3) := dk_180 0 79 (dk_at dksX55_keeps_1 18 rfl rfl)
theorem dX55_keeps_45 : decode cX55_keeps 45 = .ok (.bipush 10, 2) := dk_16 10 (dk_at dksX55_keeps_1 21 rfl rfl)
theorem dX55_keeps_47 : decode cX55_keeps 47 = .ok (.iload_n 3, 1) := dk_29 (dk_at dksX55_keeps_1 23 rfl rfl)
theorem dX55_keeps_48 : decode cX55_keeps 48 = .ok (.imul, 1) := dk_104 (dk_at dksX55_keeps_2 0 rfl rfl)
theorem dX55_keeps_49 : decode cX55_keeps 49 = .ok (.iload 4, 2) := dk_21 4 (dk_at dksX55_keeps_2 1 rfl rfl)
theorem dX55_keeps_51 : decode cX55_keeps 51 = .ok (.iadd, 1) := dk_96 (dk_at dksX55_keeps_2 3 rfl rfl)
theorem dX55_keeps_52 : decode cX55_keeps 52 = .ok (.baload, 1) := dk_51 (dk_at dksX55_keeps_2 4 rfl rfl)
theorem dX55_keeps_53 : decode cX55_keeps 53 = .ok (.ifCond .eq 13, 3) := dk_153 0 13 (dk_at dksX55_keeps_2 5 rfl rfl)
theorem dX55_keeps_56 : decode cX55_keeps 56 = .ok (.aload_n 1, 1) := dk_43 (dk_at dksX55_keeps_2 8 rfl rfl)
theorem dX55_keeps_57 : decode cX55_keeps 57 = .ok (.iload 4, 2) := dk_21 4 (dk_at dksX55_keeps_2 9 rfl rfl)
theorem dX55_keeps_59 : decode cX55_keeps 59 = .ok (.iaload, 1) := dk_46 (dk_at dksX55_keeps_2 11 rfl rfl)
theorem dX55_keeps_60 : decode cX55_keeps 60 = .ok (.aload_n 1, 1) := dk_43 (dk_at dksX55_keeps_2 12 rfl rfl)
theorem dX55_keeps_61 : decode cX55_keeps 61 = .ok (.iload_n 3, 1) := dk_29 (dk_at dksX55_keeps_2 13 rfl rfl)
theorem dX55_keeps_62 : decode cX55_keeps 62 = .ok (.iaload, 1) := dk_46 (dk_at dksX55_keeps_2 14 rfl rfl)
theorem dX55_keeps_63 : decode cX55_keeps 63 = .ok (.if_icmp .gt 7, 3) := dk_163 0 7 (dk_at dksX55_keeps_2 15 rfl rfl)
theorem dX55_keeps_66 : decode cX55_keeps 66 = .ok (.iconst 1, 1) := dk_4 (dk_at dksX55_keeps_2 18 rfl rfl)
theorem dX55_keeps_67 : decode cX55_keeps 67 = .ok (.goto 4, 3) := dk_167 0 4 (dk_at dksX55_keeps_2 19 rfl rfl)
theorem dX55_keeps_70 : decode cX55_keeps 70 = .ok (.iconst 0, 1) := dk_3 (dk_at dksX55_keeps_2 22 rfl rfl)
theorem dX55_keeps_71 : decode cX55_keeps 71 = .ok (.istore_n 2, 1) := dk_61 (dk_at dksX55_keeps_2 23 rfl rfl)
theorem dX55_keeps_72 : decode cX55_keeps 72 = .ok (.iinc 4 1, 3) := dk_132 4 1 (dk_at dksX55_keeps_3 0 rfl rfl)
theorem dX55_keeps_75 : decode cX55_keeps 75 = .ok (.goto (-60), 3) := dk_167 255 196 (dk_at dksX55_keeps_3 3 rfl rfl)
theorem dX55_keeps_78 : decode cX55_keeps 78 = .ok (.iinc 3 1, 3) := dk_132 3 1 (dk_at dksX55_keeps_3 6 rfl rfl)
theorem dX55_keeps_81 : decode cX55_keeps 81 = .ok (.goto (-77), 3) := dk_167 255 179 (dk_at dksX55_keeps_3 9 rfl rfl)
theorem dX55_keeps_84 : decode cX55_keeps 84 = .ok (.iload_n 2, 1) := dk_28 (dk_at dksX55_keeps_3 12 rfl rfl)
theorem dX55_keeps_85 : decode cX55_keeps 85 = .ok (.ireturn, 1) := dk_172 (dk_at dksX55_keeps_3 13 rfl rfl)
abbrev cX55_longestOf : ByteArray := prog_57_method_39_code
def yX55_longestOf : MethodName := ⟨RX55, "longestOf", "([I)J"⟩
def dkwX55_longestOf_3 : List UInt8 := [132, 4, 1, 167, 255, 187, 32, 173]
abbrev dktX55_longestOf_3 : List UInt8 := dkwX55_longestOf_3 ++ []
def dkwX55_longestOf_2 : List UInt8 := [9, 97, 55, 5, 132, 7, 1, 167, 255, 219, 22, 5, 32, 148, 158, 0, 8, 22, 5, 167, 0, 4, 32, 65]
abbrev dktX55_longestOf_2 : List UInt8 := dkwX55_longestOf_2 ++ dktX55_longestOf_3
def dkwX55_longestOf_1 : List UInt8 := [162, 0, 34, 22, 5, 43, 21, 7, 46, 21, 4, 160, 0, 13, 42, 180, 0, 19, 21, 7, 47, 167, 0, 4]
abbrev dktX55_longestOf_1 : List UInt8 := dkwX55_longestOf_1 ++ dktX55_longestOf_2
def dkwX55_longestOf_0 : List UInt8 := [9, 65, 3, 54, 4, 21, 4, 7, 162, 0, 69, 9, 55, 5, 3, 54, 7, 21, 7, 42, 180, 0, 89]
abbrev dktX55_longestOf_0 : List UInt8 := dkwX55_longestOf_0 ++ dktX55_longestOf_1
theorem dksX55_longestOf_0 : cX55_longestOf.data.toList.drop 0 = dktX55_longestOf_0 := by decide +kernel
theorem dksX55_longestOf_1 : cX55_longestOf.data.toList.drop 23 = dktX55_longestOf_1 := dk_seg dksX55_longestOf_0 23 rfl rfl
theorem dksX55_longestOf_2 : cX55_longestOf.data.toList.drop 47 = dktX55_longestOf_2 := dk_seg dksX55_longestOf_1 24 rfl rfl
theorem dksX55_longestOf_3 : cX55_longestOf.data.toList.drop 71 = dktX55_longestOf_3 := dk_seg dksX55_longestOf_2 24 rfl rfl
theorem dX55_longestOf_0 : decode cX55_longestOf 0 = .ok (.lconst 0, 1) := dk_9 (dk_at dksX55_longestOf_0 0 rfl rfl)
theorem dX55_longestOf_1 : decode cX55_longestOf 1 = .ok (.lstore_n 2, 1) := dk_65 (dk_at dksX55_longestOf_0 1 rfl rfl)
theorem dX55_longestOf_2 : decode cX55_longestOf 2 = .ok (.iconst 0, 1) := dk_3 (dk_at dksX55_longestOf_0 2 rfl rfl)
theorem dX55_longestOf_3 : decode cX55_longestOf 3 = .ok (.istore 4, 2) := dk_54 4 (dk_at dksX55_longestOf_0 3 rfl rfl)
theorem dX55_longestOf_5 : decode cX55_longestOf 5 = .ok (.iload 4, 2) := dk_21 4 (dk_at dksX55_longestOf_0 5 rfl rfl)
theorem dX55_longestOf_7 : decode cX55_longestOf 7 = .ok (.iconst 4, 1) := dk_7 (dk_at dksX55_longestOf_0 7 rfl rfl)
theorem dX55_longestOf_8 : decode cX55_longestOf 8 = .ok (.if_icmp .ge 69, 3) := dk_162 0 69 (dk_at dksX55_longestOf_0 8 rfl rfl)
theorem dX55_longestOf_11 : decode cX55_longestOf 11 = .ok (.lconst 0, 1) := dk_9 (dk_at dksX55_longestOf_0 11 rfl rfl)
theorem dX55_longestOf_12 : decode cX55_longestOf 12 = .ok (.lstore 5, 2) := dk_55 5 (dk_at dksX55_longestOf_0 12 rfl rfl)
theorem dX55_longestOf_14 : decode cX55_longestOf 14 = .ok (.iconst 0, 1) := dk_3 (dk_at dksX55_longestOf_0 14 rfl rfl)
theorem dX55_longestOf_15 : decode cX55_longestOf 15 = .ok (.istore 7, 2) := dk_54 7 (dk_at dksX55_longestOf_0 15 rfl rfl)
theorem dX55_longestOf_17 : decode cX55_longestOf 17 = .ok (.iload 7, 2) := dk_21 7 (dk_at dksX55_longestOf_0 17 rfl rfl)
theorem dX55_longestOf_19 : decode cX55_longestOf 19 = .ok (.aload_n 0, 1) := dk_42 (dk_at dksX55_longestOf_0 19 rfl rfl)
theorem dX55_longestOf_20 : decode cX55_longestOf 20 = .ok (.getfield 89, 3) := dk_180 0 89 (dk_at dksX55_longestOf_0 20 rfl rfl)
theorem dX55_longestOf_23 : decode cX55_longestOf 23 = .ok (.if_icmp .ge 34, 3) := dk_162 0 34 (dk_at dksX55_longestOf_1 0 rfl rfl)
theorem dX55_longestOf_26 : decode cX55_longestOf 26 = .ok (.lload 5, 2) := dk_22 5 (dk_at dksX55_longestOf_1 3 rfl rfl)
theorem dX55_longestOf_28 : decode cX55_longestOf 28 = .ok (.aload_n 1, 1) := dk_43 (dk_at dksX55_longestOf_1 5 rfl rfl)
theorem dX55_longestOf_29 : decode cX55_longestOf 29 = .ok (.iload 7, 2) := dk_21 7 (dk_at dksX55_longestOf_1 6 rfl rfl)
theorem dX55_longestOf_31 : decode cX55_longestOf 31 = .ok (.iaload, 1) := dk_46 (dk_at dksX55_longestOf_1 8 rfl rfl)
theorem dX55_longestOf_32 : decode cX55_longestOf 32 = .ok (.iload 4, 2) := dk_21 4 (dk_at dksX55_longestOf_1 9 rfl rfl)
theorem dX55_longestOf_34 : decode cX55_longestOf 34 = .ok (.if_icmp .ne 13, 3) := dk_160 0 13 (dk_at dksX55_longestOf_1 11 rfl rfl)
theorem dX55_longestOf_37 : decode cX55_longestOf 37 = .ok (.aload_n 0, 1) := dk_42 (dk_at dksX55_longestOf_1 14 rfl rfl)
theorem dX55_longestOf_38 : decode cX55_longestOf 38 = .ok (.getfield 19, 3) := dk_180 0 19 (dk_at dksX55_longestOf_1 15 rfl rfl)
theorem dX55_longestOf_41 : decode cX55_longestOf 41 = .ok (.iload 7, 2) := dk_21 7 (dk_at dksX55_longestOf_1 18 rfl rfl)
theorem dX55_longestOf_43 : decode cX55_longestOf 43 = .ok (.laload, 1) := dk_47 (dk_at dksX55_longestOf_1 20 rfl rfl)
theorem dX55_longestOf_44 : decode cX55_longestOf 44 = .ok (.goto 4, 3) := dk_167 0 4 (dk_at dksX55_longestOf_1 21 rfl rfl)
theorem dX55_longestOf_47 : decode cX55_longestOf 47 = .ok (.lconst 0, 1) := dk_9 (dk_at dksX55_longestOf_2 0 rfl rfl)
theorem dX55_longestOf_48 : decode cX55_longestOf 48 = .ok (.ladd, 1) := dk_97 (dk_at dksX55_longestOf_2 1 rfl rfl)
theorem dX55_longestOf_49 : decode cX55_longestOf 49 = .ok (.lstore 5, 2) := dk_55 5 (dk_at dksX55_longestOf_2 2 rfl rfl)
theorem dX55_longestOf_51 : decode cX55_longestOf 51 = .ok (.iinc 7 1, 3) := dk_132 7 1 (dk_at dksX55_longestOf_2 4 rfl rfl)
theorem dX55_longestOf_54 : decode cX55_longestOf 54 = .ok (.goto (-37), 3) := dk_167 255 219 (dk_at dksX55_longestOf_2 7 rfl rfl)
theorem dX55_longestOf_57 : decode cX55_longestOf 57 = .ok (.lload 5, 2) := dk_22 5 (dk_at dksX55_longestOf_2 10 rfl rfl)
theorem dX55_longestOf_59 : decode cX55_longestOf 59 = .ok (.lload_n 2, 1) := dk_32 (dk_at dksX55_longestOf_2 12 rfl rfl)
theorem dX55_longestOf_60 : decode cX55_longestOf 60 = .ok (.lcmp, 1) := dk_148 (dk_at dksX55_longestOf_2 13 rfl rfl)
theorem dX55_longestOf_61 : decode cX55_longestOf 61 = .ok (.ifCond .le 8, 3) := dk_158 0 8 (dk_at dksX55_longestOf_2 14 rfl rfl)
theorem dX55_longestOf_64 : decode cX55_longestOf 64 = .ok (.lload 5, 2) := dk_22 5 (dk_at dksX55_longestOf_2 17 rfl rfl)
theorem dX55_longestOf_66 : decode cX55_longestOf 66 = .ok (.goto 4, 3) := dk_167 0 4 (dk_at dksX55_longestOf_2 19 rfl rfl)
theorem dX55_longestOf_69 : decode cX55_longestOf 69 = .ok (.lload_n 2, 1) := dk_32 (dk_at dksX55_longestOf_2 22 rfl rfl)
theorem dX55_longestOf_70 : decode cX55_longestOf 70 = .ok (.lstore_n 2, 1) := dk_65 (dk_at dksX55_longestOf_2 23 rfl rfl)
theorem dX55_longestOf_71 : decode cX55_longestOf 71 = .ok (.iinc 4 1, 3) := dk_132 4 1 (dk_at dksX55_longestOf_3 0 rfl rfl)
theorem dX55_longestOf_74 : decode cX55_longestOf 74 = .ok (.goto (-69), 3) := dk_167 255 187 (dk_at dksX55_longestOf_3 3 rfl rfl)
theorem dX55_longestOf_77 : decode cX55_longestOf 77 = .ok (.lload_n 2, 1) := dk_32 (dk_at dksX55_longestOf_3 6 rfl rfl)
theorem dX55_longestOf_78 : decode cX55_longestOf 78 = .ok (.lreturn, 1) := dk_173 (dk_at dksX55_longestOf_3 7 rfl rfl)
abbrev cX55_station : ByteArray := prog_57_method_41_code
def yX55_station : MethodName := ⟨RX55, "station", "(I)I"⟩
def dkwX55_station_1 : List UInt8 := [167, 0, 4, 2, 172]
abbrev dktX55_station_1 : List UInt8 := dkwX55_station_1 ++ []
def dkwX55_station_0 : List UInt8 := [42, 180, 0, 196, 153, 0, 22, 27, 155, 0, 18, 27, 16, 10, 162, 0, 12, 42, 180, 0, 61, 27, 46]
abbrev dktX55_station_0 : List UInt8 := dkwX55_station_0 ++ dktX55_station_1
theorem dksX55_station_0 : cX55_station.data.toList.drop 0 = dktX55_station_0 := by decide +kernel
theorem dksX55_station_1 : cX55_station.data.toList.drop 23 = dktX55_station_1 := dk_seg dksX55_station_0 23 rfl rfl
theorem dX55_station_0 : decode cX55_station 0 = .ok (.aload_n 0, 1) := dk_42 (dk_at dksX55_station_0 0 rfl rfl)
theorem dX55_station_1 : decode cX55_station 1 = .ok (.getfield 196, 3) := dk_180 0 196 (dk_at dksX55_station_0 1 rfl rfl)
theorem dX55_station_4 : decode cX55_station 4 = .ok (.ifCond .eq 22, 3) := dk_153 0 22 (dk_at dksX55_station_0 4 rfl rfl)
theorem dX55_station_7 : decode cX55_station 7 = .ok (.iload_n 1, 1) := dk_27 (dk_at dksX55_station_0 7 rfl rfl)
theorem dX55_station_8 : decode cX55_station 8 = .ok (.ifCond .lt 18, 3) := dk_155 0 18 (dk_at dksX55_station_0 8 rfl rfl)
theorem dX55_station_11 : decode cX55_station 11 = .ok (.iload_n 1, 1) := dk_27 (dk_at dksX55_station_0 11 rfl rfl)
theorem dX55_station_12 : decode cX55_station 12 = .ok (.bipush 10, 2) := dk_16 10 (dk_at dksX55_station_0 12 rfl rfl)
theorem dX55_station_14 : decode cX55_station 14 = .ok (.if_icmp .ge 12, 3) := dk_162 0 12 (dk_at dksX55_station_0 14 rfl rfl)
theorem dX55_station_17 : decode cX55_station 17 = .ok (.aload_n 0, 1) := dk_42 (dk_at dksX55_station_0 17 rfl rfl)
theorem dX55_station_18 : decode cX55_station 18 = .ok (.getfield 61, 3) := dk_180 0 61 (dk_at dksX55_station_0 18 rfl rfl)
theorem dX55_station_21 : decode cX55_station 21 = .ok (.iload_n 1, 1) := dk_27 (dk_at dksX55_station_0 21 rfl rfl)
theorem dX55_station_22 : decode cX55_station 22 = .ok (.iaload, 1) := dk_46 (dk_at dksX55_station_0 22 rfl rfl)
theorem dX55_station_23 : decode cX55_station 23 = .ok (.goto 4, 3) := dk_167 0 4 (dk_at dksX55_station_1 0 rfl rfl)
theorem dX55_station_26 : decode cX55_station 26 = .ok (.iconst (-1), 1) := dk_2 (dk_at dksX55_station_1 3 rfl rfl)
theorem dX55_station_27 : decode cX55_station 27 = .ok (.ireturn, 1) := dk_172 (dk_at dksX55_station_1 4 rfl rfl)
theorem q461 : (Jvm.Cond.initialized "WasteHouseModel$ApartCostModel") ∈ lw_all := lw_g (lw_at lw_m1 69 rfl) rfl
theorem q2025 : (Jvm.Cond.selects "WasteHouseModel$ApartCostModel" ({ cls := "java/lang/Object", name := "getClass", desc := "()Ljava/lang/Class;" } : Jvm.MethodName) ({ cls := "java/lang/Object", name := "getClass", desc := "()Ljava/lang/Class;" } : Jvm.MethodName)) ∈ lw_all := lw_g (lw_at lw_m7 193 rfl) rfl
theorem q3135 : (Jvm.Cond.selects "WasteHouseModel$ApartCostModel" ({ cls := "java/lang/Object", name := "equals", desc := "(Ljava/lang/Object;)Z" } : Jvm.MethodName) ({ cls := "java/lang/Object", name := "equals", desc := "(Ljava/lang/Object;)Z" } : Jvm.MethodName)) ∈ lw_all := lw_g (lw_at lw_m12 103 rfl) rfl
theorem q3653 : (Jvm.Cond.selects "WasteHouseModel$ApartCostModel" ({ cls := "java/lang/Object", name := "hashCode", desc := "()I" } : Jvm.MethodName) ({ cls := "java/lang/Object", name := "hashCode", desc := "()I" } : Jvm.MethodName)) ∈ lw_all := lw_g (lw_at lw_m14 141 rfl) rfl
theorem q7224 : (Jvm.Cond.instantiable "WasteHouseModel$ApartCostModel" (32 : Nat)) ∈ lw_all := lw_g (lw_at lw_m29 112 rfl) rfl
theorem q7226 : (Jvm.Cond.instanceMethod ({ cls := "WasteHouseModel$ApartCostModel", name := "<init>", desc := "()V" } : Jvm.MethodName)) ∈ lw_all := lw_g (lw_at lw_m29 114 rfl) rfl
theorem q7227 : (Jvm.Cond.code ({ cls := "WasteHouseModel$ApartCostModel", name := "<init>", desc := "()V" } : Jvm.MethodName) prog_57_method_1_code (2 : Nat) (Option.none : Option Jvm.ClassFile.FieldType)) ∈ lw_all := lw_g (lw_at lw_m29 115 rfl) rfl
theorem q7228 : (Jvm.Cond.methodLink "WasteHouseModel$ApartCostModel" (1 : Nat) ({ cls := "java/lang/Object", name := "<init>", desc := "()V" } : Jvm.MethodName)) ∈ lw_all := lw_g (lw_at lw_m29 116 rfl) rfl
theorem q7229 : (Jvm.Cond.fieldLink "WasteHouseModel$ApartCostModel" (89 : Nat) "WasteHouseModel$ApartCostModel" "count" "I") ∈ lw_all := lw_g (lw_at lw_m29 117 rfl) rfl
theorem q7230 : (Jvm.Cond.fieldLink "WasteHouseModel$ApartCostModel" (7 : Nat) "WasteHouseModel$ApartCostModel" "freed" "[I") ∈ lw_all := lw_g (lw_at lw_m29 118 rfl) rfl
theorem q7231 : (Jvm.Cond.fieldLink "WasteHouseModel$ApartCostModel" (13 : Nat) "WasteHouseModel$ApartCostModel" "tools" "[I") ∈ lw_all := lw_g (lw_at lw_m29 119 rfl) rfl
theorem q7232 : (Jvm.Cond.fieldLink "WasteHouseModel$ApartCostModel" (16 : Nat) "WasteHouseModel$ApartCostModel" "sides" "[I") ∈ lw_all := lw_g (lw_at lw_m29 120 rfl) rfl
theorem q7233 : (Jvm.Cond.fieldLink "WasteHouseModel$ApartCostModel" (19 : Nat) "WasteHouseModel$ApartCostModel" "costs" "[J") ∈ lw_all := lw_g (lw_at lw_m29 121 rfl) rfl
theorem q7234 : (Jvm.Cond.fieldLink "WasteHouseModel$ApartCostModel" (23 : Nat) "WasteHouseModel$ApartCostModel" "breaking" "[Z") ∈ lw_all := lw_g (lw_at lw_m29 122 rfl) rfl
theorem q7235 : (Jvm.Cond.fieldLink "WasteHouseModel$ApartCostModel" (27 : Nat) "WasteHouseModel$ApartCostModel" "needs" "[Z") ∈ lw_all := lw_g (lw_at lw_m29 123 rfl) rfl
theorem q7236 : (Jvm.Cond.fieldLink "WasteHouseModel$ApartCostModel" (30 : Nat) "WasteHouseModel$ApartCostModel" "changes" "[J") ∈ lw_all := lw_g (lw_at lw_m29 124 rfl) rfl
theorem q7237 : (Jvm.Cond.fieldLink "WasteHouseModel$ApartCostModel" (33 : Nat) "WasteHouseModel$ApartCostModel" "turns" "[J") ∈ lw_all := lw_g (lw_at lw_m29 125 rfl) rfl
theorem q7238 : (Jvm.Cond.fieldLink "WasteHouseModel$ApartCostModel" (36 : Nat) "WasteHouseModel$ApartCostModel" "worths" "[J") ∈ lw_all := lw_g (lw_at lw_m29 126 rfl) rfl
theorem q7239 : (Jvm.Cond.fieldLink "WasteHouseModel$ApartCostModel" (39 : Nat) "WasteHouseModel$ApartCostModel" "above" "[I") ∈ lw_all := lw_g (lw_at lw_m29 127 rfl) rfl
theorem q7240 : (Jvm.Cond.fieldLink "WasteHouseModel$ApartCostModel" (42 : Nat) "WasteHouseModel$ApartCostModel" "below" "[I") ∈ lw_all := lw_g (lw_at lw_m29 128 rfl) rfl
theorem q7241 : (Jvm.Cond.fieldLink "WasteHouseModel$ApartCostModel" (45 : Nat) "WasteHouseModel$ApartCostModel" "rests" "[I") ∈ lw_all := lw_g (lw_at lw_m29 129 rfl) rfl
theorem q7242 : (Jvm.Cond.fieldLink "WasteHouseModel$ApartCostModel" (48 : Nat) "WasteHouseModel$ApartCostModel" "restWorths" "[J") ∈ lw_all := lw_g (lw_at lw_m29 130 rfl) rfl
theorem q7243 : (Jvm.Cond.fieldLink "WasteHouseModel$ApartCostModel" (119 : Nat) "WasteHouseModel$ApartCostModel" "restCount" "I") ∈ lw_all := lw_g (lw_at lw_m29 131 rfl) rfl
theorem q7244 : (Jvm.Cond.fieldLink "WasteHouseModel$ApartCostModel" (51 : Nat) "WasteHouseModel$ApartCostModel" "row" "[I") ∈ lw_all := lw_g (lw_at lw_m29 132 rfl) rfl
theorem q7245 : (Jvm.Cond.fieldLink "WasteHouseModel$ApartCostModel" (54 : Nat) "WasteHouseModel$ApartCostModel" "length" "I") ∈ lw_all := lw_g (lw_at lw_m29 133 rfl) rfl
theorem q7246 : (Jvm.Cond.fieldLink "WasteHouseModel$ApartCostModel" (170 : Nat) "WasteHouseModel$ApartCostModel" "found" "J") ∈ lw_all := lw_g (lw_at lw_m29 134 rfl) rfl
theorem q7247 : (Jvm.Cond.fieldLink "WasteHouseModel$ApartCostModel" (58 : Nat) "WasteHouseModel$ApartCostModel" "brought" "[J") ∈ lw_all := lw_g (lw_at lw_m29 135 rfl) rfl
theorem q7248 : (Jvm.Cond.fieldLink "WasteHouseModel$ApartCostModel" (100 : Nat) "WasteHouseModel$ApartCostModel" "isFresh" "Z") ∈ lw_all := lw_g (lw_at lw_m29 136 rfl) rfl
theorem q7249 : (Jvm.Cond.fieldLink "WasteHouseModel$ApartCostModel" (174 : Nat) "WasteHouseModel$ApartCostModel" "openParts" "I") ∈ lw_all := lw_g (lw_at lw_m29 137 rfl) rfl
theorem q7250 : (Jvm.Cond.fieldLink "WasteHouseModel$ApartCostModel" (177 : Nat) "WasteHouseModel$ApartCostModel" "actsThen" "I") ∈ lw_all := lw_g (lw_at lw_m29 138 rfl) rfl
theorem q7251 : (Jvm.Cond.fieldLink "WasteHouseModel$ApartCostModel" (61 : Nat) "WasteHouseModel$ApartCostModel" "places" "[I") ∈ lw_all := lw_g (lw_at lw_m29 139 rfl) rfl
theorem q7252 : (Jvm.Cond.fieldLink "WasteHouseModel$ApartCostModel" (196 : Nat) "WasteHouseModel$ApartCostModel" "isShared" "Z") ∈ lw_all := lw_g (lw_at lw_m29 140 rfl) rfl
theorem q7253 : (Jvm.Cond.fieldLink "WasteHouseModel$ApartCostModel" (64 : Nat) "WasteHouseModel$ApartCostModel" "tested" "I") ∈ lw_all := lw_g (lw_at lw_m29 141 rfl) rfl
theorem q7254 : (Jvm.Cond.fieldLink "WasteHouseModel$ApartCostModel" (130 : Nat) "WasteHouseModel$ApartCostModel" "testedAs" "I") ∈ lw_all := lw_g (lw_at lw_m29 142 rfl) rfl
theorem q7255 : (Jvm.Cond.fieldLink "WasteHouseModel$ApartCostModel" (67 : Nat) "WasteHouseModel$ApartCostModel" "needed" "[I") ∈ lw_all := lw_g (lw_at lw_m29 143 rfl) rfl
theorem q7256 : (Jvm.Cond.fieldLink "WasteHouseModel$ApartCostModel" (70 : Nat) "WasteHouseModel$ApartCostModel" "least" "[J") ∈ lw_all := lw_g (lw_at lw_m29 144 rfl) rfl
theorem q7257 : (Jvm.Cond.fieldLink "WasteHouseModel$ApartCostModel" (73 : Nat) "WasteHouseModel$ApartCostModel" "values" "[J") ∈ lw_all := lw_g (lw_at lw_m29 145 rfl) rfl
theorem q7258 : (Jvm.Cond.fieldLink "WasteHouseModel$ApartCostModel" (76 : Nat) "WasteHouseModel$ApartCostModel" "tried" "[I") ∈ lw_all := lw_g (lw_at lw_m29 146 rfl) rfl
theorem q7259 : (Jvm.Cond.fieldLink "WasteHouseModel$ApartCostModel" (79 : Nat) "WasteHouseModel$ApartCostModel" "behind" "[Z") ∈ lw_all := lw_g (lw_at lw_m29 147 rfl) rfl
theorem q7260 : (Jvm.Cond.fieldLink "WasteHouseModel$ApartCostModel" (82 : Nat) "WasteHouseModel$ApartCostModel" "rowActs" "[I") ∈ lw_all := lw_g (lw_at lw_m29 148 rfl) rfl
theorem q7261 : (Jvm.Cond.lays "WasteHouseModel$ApartCostModel" "WasteHouseModel$ApartCostModel" "count" "I") ∈ lw_all := lw_g (lw_at lw_m29 149 rfl) rfl
theorem q7262 : (Jvm.Cond.soleField "WasteHouseModel$ApartCostModel" "count") ∈ lw_all := lw_g (lw_at lw_m29 150 rfl) rfl
theorem q7263 : (Jvm.Cond.laysFinal "WasteHouseModel$ApartCostModel" "WasteHouseModel$ApartCostModel" "freed" "[I") ∈ lw_all := lw_g (lw_at lw_m29 151 rfl) rfl
theorem q7264 : (Jvm.Cond.soleField "WasteHouseModel$ApartCostModel" "freed") ∈ lw_all := lw_g (lw_at lw_m29 152 rfl) rfl
theorem q7265 : (Jvm.Cond.laysFinal "WasteHouseModel$ApartCostModel" "WasteHouseModel$ApartCostModel" "tools" "[I") ∈ lw_all := lw_g (lw_at lw_m29 153 rfl) rfl
theorem q7266 : (Jvm.Cond.soleField "WasteHouseModel$ApartCostModel" "tools") ∈ lw_all := lw_g (lw_at lw_m29 154 rfl) rfl
theorem q7267 : (Jvm.Cond.laysFinal "WasteHouseModel$ApartCostModel" "WasteHouseModel$ApartCostModel" "sides" "[I") ∈ lw_all := lw_g (lw_at lw_m29 155 rfl) rfl
theorem q7268 : (Jvm.Cond.soleField "WasteHouseModel$ApartCostModel" "sides") ∈ lw_all := lw_g (lw_at lw_m29 156 rfl) rfl
theorem q7269 : (Jvm.Cond.laysFinal "WasteHouseModel$ApartCostModel" "WasteHouseModel$ApartCostModel" "costs" "[J") ∈ lw_all := lw_g (lw_at lw_m29 157 rfl) rfl
theorem q7270 : (Jvm.Cond.soleField "WasteHouseModel$ApartCostModel" "costs") ∈ lw_all := lw_g (lw_at lw_m29 158 rfl) rfl
theorem q7271 : (Jvm.Cond.laysFinal "WasteHouseModel$ApartCostModel" "WasteHouseModel$ApartCostModel" "breaking" "[Z") ∈ lw_all := lw_g (lw_at lw_m29 159 rfl) rfl
theorem q7272 : (Jvm.Cond.soleField "WasteHouseModel$ApartCostModel" "breaking") ∈ lw_all := lw_g (lw_at lw_m29 160 rfl) rfl
theorem q7273 : (Jvm.Cond.laysFinal "WasteHouseModel$ApartCostModel" "WasteHouseModel$ApartCostModel" "needs" "[Z") ∈ lw_all := lw_g (lw_at lw_m29 161 rfl) rfl
theorem q7274 : (Jvm.Cond.soleField "WasteHouseModel$ApartCostModel" "needs") ∈ lw_all := lw_g (lw_at lw_m29 162 rfl) rfl
theorem q7275 : (Jvm.Cond.laysFinal "WasteHouseModel$ApartCostModel" "WasteHouseModel$ApartCostModel" "changes" "[J") ∈ lw_all := lw_g (lw_at lw_m29 163 rfl) rfl
theorem q7276 : (Jvm.Cond.soleField "WasteHouseModel$ApartCostModel" "changes") ∈ lw_all := lw_g (lw_at lw_m29 164 rfl) rfl
theorem q7277 : (Jvm.Cond.laysFinal "WasteHouseModel$ApartCostModel" "WasteHouseModel$ApartCostModel" "turns" "[J") ∈ lw_all := lw_g (lw_at lw_m29 165 rfl) rfl
theorem q7278 : (Jvm.Cond.soleField "WasteHouseModel$ApartCostModel" "turns") ∈ lw_all := lw_g (lw_at lw_m29 166 rfl) rfl
theorem q7279 : (Jvm.Cond.laysFinal "WasteHouseModel$ApartCostModel" "WasteHouseModel$ApartCostModel" "worths" "[J") ∈ lw_all := lw_g (lw_at lw_m29 167 rfl) rfl
theorem q7280 : (Jvm.Cond.soleField "WasteHouseModel$ApartCostModel" "worths") ∈ lw_all := lw_g (lw_at lw_m29 168 rfl) rfl
theorem q7281 : (Jvm.Cond.laysFinal "WasteHouseModel$ApartCostModel" "WasteHouseModel$ApartCostModel" "above" "[I") ∈ lw_all := lw_g (lw_at lw_m29 169 rfl) rfl
theorem q7282 : (Jvm.Cond.soleField "WasteHouseModel$ApartCostModel" "above") ∈ lw_all := lw_g (lw_at lw_m29 170 rfl) rfl
theorem q7283 : (Jvm.Cond.laysFinal "WasteHouseModel$ApartCostModel" "WasteHouseModel$ApartCostModel" "below" "[I") ∈ lw_all := lw_g (lw_at lw_m29 171 rfl) rfl
theorem q7284 : (Jvm.Cond.soleField "WasteHouseModel$ApartCostModel" "below") ∈ lw_all := lw_g (lw_at lw_m29 172 rfl) rfl
theorem q7285 : (Jvm.Cond.laysFinal "WasteHouseModel$ApartCostModel" "WasteHouseModel$ApartCostModel" "rests" "[I") ∈ lw_all := lw_g (lw_at lw_m29 173 rfl) rfl
theorem q7286 : (Jvm.Cond.soleField "WasteHouseModel$ApartCostModel" "rests") ∈ lw_all := lw_g (lw_at lw_m29 174 rfl) rfl
theorem q7287 : (Jvm.Cond.laysFinal "WasteHouseModel$ApartCostModel" "WasteHouseModel$ApartCostModel" "restWorths" "[J") ∈ lw_all := lw_g (lw_at lw_m29 175 rfl) rfl
theorem q7288 : (Jvm.Cond.soleField "WasteHouseModel$ApartCostModel" "restWorths") ∈ lw_all := lw_g (lw_at lw_m29 176 rfl) rfl
theorem q7289 : (Jvm.Cond.lays "WasteHouseModel$ApartCostModel" "WasteHouseModel$ApartCostModel" "restCount" "I") ∈ lw_all := lw_g (lw_at lw_m29 177 rfl) rfl
theorem q7290 : (Jvm.Cond.soleField "WasteHouseModel$ApartCostModel" "restCount") ∈ lw_all := lw_g (lw_at lw_m29 178 rfl) rfl
theorem q7291 : (Jvm.Cond.laysFinal "WasteHouseModel$ApartCostModel" "WasteHouseModel$ApartCostModel" "row" "[I") ∈ lw_all := lw_g (lw_at lw_m29 179 rfl) rfl
theorem q7292 : (Jvm.Cond.soleField "WasteHouseModel$ApartCostModel" "row") ∈ lw_all := lw_g (lw_at lw_m29 180 rfl) rfl
theorem q7293 : (Jvm.Cond.lays "WasteHouseModel$ApartCostModel" "WasteHouseModel$ApartCostModel" "length" "I") ∈ lw_all := lw_g (lw_at lw_m29 181 rfl) rfl
theorem q7294 : (Jvm.Cond.soleField "WasteHouseModel$ApartCostModel" "length") ∈ lw_all := lw_g (lw_at lw_m29 182 rfl) rfl
theorem q7295 : (Jvm.Cond.lays "WasteHouseModel$ApartCostModel" "WasteHouseModel$ApartCostModel" "found" "J") ∈ lw_all := lw_g (lw_at lw_m29 183 rfl) rfl
theorem q7296 : (Jvm.Cond.soleField "WasteHouseModel$ApartCostModel" "found") ∈ lw_all := lw_g (lw_at lw_m29 184 rfl) rfl
theorem q7297 : (Jvm.Cond.laysFinal "WasteHouseModel$ApartCostModel" "WasteHouseModel$ApartCostModel" "brought" "[J") ∈ lw_all := lw_g (lw_at lw_m29 185 rfl) rfl
theorem q7298 : (Jvm.Cond.soleField "WasteHouseModel$ApartCostModel" "brought") ∈ lw_all := lw_g (lw_at lw_m29 186 rfl) rfl
theorem q7299 : (Jvm.Cond.lays "WasteHouseModel$ApartCostModel" "WasteHouseModel$ApartCostModel" "isFresh" "Z") ∈ lw_all := lw_g (lw_at lw_m29 187 rfl) rfl
theorem q7300 : (Jvm.Cond.soleField "WasteHouseModel$ApartCostModel" "isFresh") ∈ lw_all := lw_g (lw_at lw_m29 188 rfl) rfl
theorem q7301 : (Jvm.Cond.lays "WasteHouseModel$ApartCostModel" "WasteHouseModel$ApartCostModel" "openParts" "I") ∈ lw_all := lw_g (lw_at lw_m29 189 rfl) rfl
theorem q7302 : (Jvm.Cond.soleField "WasteHouseModel$ApartCostModel" "openParts") ∈ lw_all := lw_g (lw_at lw_m29 190 rfl) rfl
theorem q7303 : (Jvm.Cond.lays "WasteHouseModel$ApartCostModel" "WasteHouseModel$ApartCostModel" "actsThen" "I") ∈ lw_all := lw_g (lw_at lw_m29 191 rfl) rfl
theorem q7304 : (Jvm.Cond.soleField "WasteHouseModel$ApartCostModel" "actsThen") ∈ lw_all := lw_g (lw_at lw_m29 192 rfl) rfl
theorem q7305 : (Jvm.Cond.laysFinal "WasteHouseModel$ApartCostModel" "WasteHouseModel$ApartCostModel" "places" "[I") ∈ lw_all := lw_g (lw_at lw_m29 193 rfl) rfl
theorem q7306 : (Jvm.Cond.soleField "WasteHouseModel$ApartCostModel" "places") ∈ lw_all := lw_g (lw_at lw_m29 194 rfl) rfl
theorem q7307 : (Jvm.Cond.lays "WasteHouseModel$ApartCostModel" "WasteHouseModel$ApartCostModel" "isShared" "Z") ∈ lw_all := lw_g (lw_at lw_m29 195 rfl) rfl
theorem q7308 : (Jvm.Cond.soleField "WasteHouseModel$ApartCostModel" "isShared") ∈ lw_all := lw_g (lw_at lw_m29 196 rfl) rfl
theorem q7309 : (Jvm.Cond.lays "WasteHouseModel$ApartCostModel" "WasteHouseModel$ApartCostModel" "tested" "I") ∈ lw_all := lw_g (lw_at lw_m29 197 rfl) rfl
theorem q7310 : (Jvm.Cond.soleField "WasteHouseModel$ApartCostModel" "tested") ∈ lw_all := lw_g (lw_at lw_m29 198 rfl) rfl
theorem q7311 : (Jvm.Cond.lays "WasteHouseModel$ApartCostModel" "WasteHouseModel$ApartCostModel" "testedAs" "I") ∈ lw_all := lw_g (lw_at lw_m29 199 rfl) rfl
theorem q7312 : (Jvm.Cond.soleField "WasteHouseModel$ApartCostModel" "testedAs") ∈ lw_all := lw_g (lw_at lw_m29 200 rfl) rfl
theorem q7313 : (Jvm.Cond.laysFinal "WasteHouseModel$ApartCostModel" "WasteHouseModel$ApartCostModel" "needed" "[I") ∈ lw_all := lw_g (lw_at lw_m29 201 rfl) rfl
theorem q7314 : (Jvm.Cond.soleField "WasteHouseModel$ApartCostModel" "needed") ∈ lw_all := lw_g (lw_at lw_m29 202 rfl) rfl
theorem q7315 : (Jvm.Cond.laysFinal "WasteHouseModel$ApartCostModel" "WasteHouseModel$ApartCostModel" "least" "[J") ∈ lw_all := lw_g (lw_at lw_m29 203 rfl) rfl
theorem q7316 : (Jvm.Cond.soleField "WasteHouseModel$ApartCostModel" "least") ∈ lw_all := lw_g (lw_at lw_m29 204 rfl) rfl
theorem q7317 : (Jvm.Cond.laysFinal "WasteHouseModel$ApartCostModel" "WasteHouseModel$ApartCostModel" "values" "[J") ∈ lw_all := lw_g (lw_at lw_m29 205 rfl) rfl
theorem q7318 : (Jvm.Cond.soleField "WasteHouseModel$ApartCostModel" "values") ∈ lw_all := lw_g (lw_at lw_m29 206 rfl) rfl
theorem q7319 : (Jvm.Cond.laysFinal "WasteHouseModel$ApartCostModel" "WasteHouseModel$ApartCostModel" "tried" "[I") ∈ lw_all := lw_g (lw_at lw_m29 207 rfl) rfl
theorem q7320 : (Jvm.Cond.soleField "WasteHouseModel$ApartCostModel" "tried") ∈ lw_all := lw_g (lw_at lw_m29 208 rfl) rfl
theorem q7321 : (Jvm.Cond.laysFinal "WasteHouseModel$ApartCostModel" "WasteHouseModel$ApartCostModel" "behind" "[Z") ∈ lw_all := lw_g (lw_at lw_m29 209 rfl) rfl
theorem q7322 : (Jvm.Cond.soleField "WasteHouseModel$ApartCostModel" "behind") ∈ lw_all := lw_g (lw_at lw_m29 210 rfl) rfl
theorem q7323 : (Jvm.Cond.laysFinal "WasteHouseModel$ApartCostModel" "WasteHouseModel$ApartCostModel" "rowActs" "[I") ∈ lw_all := lw_g (lw_at lw_m29 211 rfl) rfl
theorem q7324 : (Jvm.Cond.soleField "WasteHouseModel$ApartCostModel" "rowActs") ∈ lw_all := lw_g (lw_at lw_m29 212 rfl) rfl
theorem q7325 : (Jvm.Cond.superclass "WasteHouseModel$ApartCostModel" "java/lang/Object") ∈ lw_all := lw_g (lw_at lw_m29 213 rfl) rfl
theorem q8160 : (Jvm.Cond.instanceMethod ({ cls := "WasteHouseModel$ApartCostModel", name := "act", desc := "(IIIJ)I" } : Jvm.MethodName)) ∈ lw_all := lw_g (lw_at lw_m33 88 rfl) rfl
theorem q8161 : (Jvm.Cond.selects "WasteHouseModel$ApartCostModel" ({ cls := "WasteHouseModel$ApartCostModel", name := "act", desc := "(IIIJ)I" } : Jvm.MethodName) ({ cls := "WasteHouseModel$ApartCostModel", name := "act", desc := "(IIIJ)I" } : Jvm.MethodName)) ∈ lw_all := lw_g (lw_at lw_m33 89 rfl) rfl
theorem q8162 : (Jvm.Cond.code ({ cls := "WasteHouseModel$ApartCostModel", name := "act", desc := "(IIIJ)I" } : Jvm.MethodName) prog_57_method_8_code (6 : Nat) (Option.some Jvm.ClassFile.FieldType.int)) ∈ lw_all := lw_g (lw_at lw_m33 90 rfl) rfl
theorem q8163 : (Jvm.Cond.methodLink "WasteHouseModel$ApartCostModel" (92 : Nat) ({ cls := "WasteHouseModel$ApartCostModel", name := "isKind", desc := "(I)Z" } : Jvm.MethodName)) ∈ lw_all := lw_g (lw_at lw_m33 91 rfl) rfl
theorem q8164 : (Jvm.Cond.static ({ cls := "WasteHouseModel$ApartCostModel", name := "isKind", desc := "(I)Z" } : Jvm.MethodName)) ∈ lw_all := lw_g (lw_at lw_m33 92 rfl) rfl
theorem q8165 : (Jvm.Cond.code ({ cls := "WasteHouseModel$ApartCostModel", name := "isKind", desc := "(I)Z" } : Jvm.MethodName) prog_57_method_5_code (1 : Nat) (Option.some Jvm.ClassFile.FieldType.boolean)) ∈ lw_all := lw_g (lw_at lw_m33 93 rfl) rfl
theorem q8166 : (Jvm.Cond.methodLink "WasteHouseModel$ApartCostModel" (96 : Nat) ({ cls := "WasteHouseModel$ApartCostModel", name := "isCents", desc := "(J)Z" } : Jvm.MethodName)) ∈ lw_all := lw_g (lw_at lw_m33 94 rfl) rfl
theorem q8167 : (Jvm.Cond.static ({ cls := "WasteHouseModel$ApartCostModel", name := "isCents", desc := "(J)Z" } : Jvm.MethodName)) ∈ lw_all := lw_g (lw_at lw_m33 95 rfl) rfl
theorem q8168 : (Jvm.Cond.code ({ cls := "WasteHouseModel$ApartCostModel", name := "isCents", desc := "(J)Z" } : Jvm.MethodName) prog_57_method_3_code (2 : Nat) (Option.some Jvm.ClassFile.FieldType.boolean)) ∈ lw_all := lw_g (lw_at lw_m33 96 rfl) rfl
theorem q8169 : (Jvm.Cond.constantLong "WasteHouseModel$ApartCostModel" (85 : Nat) (1000000 : Int64)) ∈ lw_all := lw_g (lw_at lw_m33 97 rfl) rfl
theorem q8179 : (Jvm.Cond.instanceMethod ({ cls := "WasteHouseModel$ApartCostModel", name := "before", desc := "(II)Z" } : Jvm.MethodName)) ∈ lw_all := lw_g (lw_at lw_m33 107 rfl) rfl
theorem q8180 : (Jvm.Cond.selects "WasteHouseModel$ApartCostModel" ({ cls := "WasteHouseModel$ApartCostModel", name := "before", desc := "(II)Z" } : Jvm.MethodName) ({ cls := "WasteHouseModel$ApartCostModel", name := "before", desc := "(II)Z" } : Jvm.MethodName)) ∈ lw_all := lw_g (lw_at lw_m33 108 rfl) rfl
theorem q8181 : (Jvm.Cond.code ({ cls := "WasteHouseModel$ApartCostModel", name := "before", desc := "(II)Z" } : Jvm.MethodName) prog_57_method_10_code (3 : Nat) (Option.some Jvm.ClassFile.FieldType.boolean)) ∈ lw_all := lw_g (lw_at lw_m33 109 rfl) rfl
theorem q8182 : (Jvm.Cond.methodLink "WasteHouseModel$ApartCostModel" (104 : Nat) ({ cls := "WasteHouseModel$ApartCostModel", name := "isAct", desc := "(I)Z" } : Jvm.MethodName)) ∈ lw_all := lw_g (lw_at lw_m33 110 rfl) rfl
theorem q8183 : (Jvm.Cond.privateMethod ({ cls := "WasteHouseModel$ApartCostModel", name := "isAct", desc := "(I)Z" } : Jvm.MethodName)) ∈ lw_tbl := lw_at lw_m33 111 rfl
theorem q8184 : (Jvm.Cond.instanceMethod ({ cls := "WasteHouseModel$ApartCostModel", name := "isAct", desc := "(I)Z" } : Jvm.MethodName)) ∈ lw_all := lw_g (lw_at lw_m33 112 rfl) rfl
theorem q8185 : (Jvm.Cond.code ({ cls := "WasteHouseModel$ApartCostModel", name := "isAct", desc := "(I)Z" } : Jvm.MethodName) prog_57_method_7_code (2 : Nat) (Option.some Jvm.ClassFile.FieldType.boolean)) ∈ lw_all := lw_g (lw_at lw_m33 113 rfl) rfl
theorem q8186 : (Jvm.Cond.methodLink "WasteHouseModel$ApartCostModel" (107 : Nat) ({ cls := "WasteHouseModel$ApartCostModel", name := "leadsTo", desc := "(II)Z" } : Jvm.MethodName)) ∈ lw_all := lw_g (lw_at lw_m33 114 rfl) rfl
theorem q8187 : (Jvm.Cond.privateMethod ({ cls := "WasteHouseModel$ApartCostModel", name := "leadsTo", desc := "(II)Z" } : Jvm.MethodName)) ∈ lw_tbl := lw_at lw_m33 115 rfl
theorem q8188 : (Jvm.Cond.instanceMethod ({ cls := "WasteHouseModel$ApartCostModel", name := "leadsTo", desc := "(II)Z" } : Jvm.MethodName)) ∈ lw_all := lw_g (lw_at lw_m33 116 rfl) rfl
theorem q8189 : (Jvm.Cond.code ({ cls := "WasteHouseModel$ApartCostModel", name := "leadsTo", desc := "(II)Z" } : Jvm.MethodName) prog_57_method_9_code (7 : Nat) (Option.some Jvm.ClassFile.FieldType.boolean)) ∈ lw_all := lw_g (lw_at lw_m33 117 rfl) rfl
theorem q9176 : (Jvm.Cond.instanceMethod ({ cls := "WasteHouseModel$ApartCostModel", name := "change", desc := "(IIJ)Z" } : Jvm.MethodName)) ∈ lw_all := lw_g (lw_at lw_m37 144 rfl) rfl
theorem q9177 : (Jvm.Cond.selects "WasteHouseModel$ApartCostModel" ({ cls := "WasteHouseModel$ApartCostModel", name := "change", desc := "(IIJ)Z" } : Jvm.MethodName) ({ cls := "WasteHouseModel$ApartCostModel", name := "change", desc := "(IIJ)Z" } : Jvm.MethodName)) ∈ lw_all := lw_g (lw_at lw_m37 145 rfl) rfl
theorem q9178 : (Jvm.Cond.code ({ cls := "WasteHouseModel$ApartCostModel", name := "change", desc := "(IIJ)Z" } : Jvm.MethodName) prog_57_method_11_code (5 : Nat) (Option.some Jvm.ClassFile.FieldType.boolean)) ∈ lw_all := lw_g (lw_at lw_m37 146 rfl) rfl
theorem q9181 : (Jvm.Cond.instanceMethod ({ cls := "WasteHouseModel$ApartCostModel", name := "turn", desc := "(IIJ)Z" } : Jvm.MethodName)) ∈ lw_all := lw_g (lw_at lw_m37 149 rfl) rfl
theorem q9182 : (Jvm.Cond.selects "WasteHouseModel$ApartCostModel" ({ cls := "WasteHouseModel$ApartCostModel", name := "turn", desc := "(IIJ)Z" } : Jvm.MethodName) ({ cls := "WasteHouseModel$ApartCostModel", name := "turn", desc := "(IIJ)Z" } : Jvm.MethodName)) ∈ lw_all := lw_g (lw_at lw_m37 150 rfl) rfl
theorem q9183 : (Jvm.Cond.code ({ cls := "WasteHouseModel$ApartCostModel", name := "turn", desc := "(IIJ)Z" } : Jvm.MethodName) prog_57_method_12_code (5 : Nat) (Option.some Jvm.ClassFile.FieldType.boolean)) ∈ lw_all := lw_g (lw_at lw_m37 151 rfl) rfl
theorem q9186 : (Jvm.Cond.instanceMethod ({ cls := "WasteHouseModel$ApartCostModel", name := "worth", desc := "(IJ)Z" } : Jvm.MethodName)) ∈ lw_all := lw_g (lw_at lw_m37 154 rfl) rfl
theorem q9187 : (Jvm.Cond.selects "WasteHouseModel$ApartCostModel" ({ cls := "WasteHouseModel$ApartCostModel", name := "worth", desc := "(IJ)Z" } : Jvm.MethodName) ({ cls := "WasteHouseModel$ApartCostModel", name := "worth", desc := "(IJ)Z" } : Jvm.MethodName)) ∈ lw_all := lw_g (lw_at lw_m37 155 rfl) rfl
theorem q9188 : (Jvm.Cond.code ({ cls := "WasteHouseModel$ApartCostModel", name := "worth", desc := "(IJ)Z" } : Jvm.MethodName) prog_57_method_13_code (4 : Nat) (Option.some Jvm.ClassFile.FieldType.boolean)) ∈ lw_all := lw_g (lw_at lw_m37 156 rfl) rfl
theorem q9189 : (Jvm.Cond.methodLink "WasteHouseModel$ApartCostModel" (111 : Nat) ({ cls := "WasteHouseModel$ApartCostModel", name := "isPart", desc := "(I)Z" } : Jvm.MethodName)) ∈ lw_all := lw_g (lw_at lw_m37 157 rfl) rfl
theorem q9190 : (Jvm.Cond.static ({ cls := "WasteHouseModel$ApartCostModel", name := "isPart", desc := "(I)Z" } : Jvm.MethodName)) ∈ lw_all := lw_g (lw_at lw_m37 158 rfl) rfl
theorem q9191 : (Jvm.Cond.code ({ cls := "WasteHouseModel$ApartCostModel", name := "isPart", desc := "(I)Z" } : Jvm.MethodName) prog_57_method_6_code (1 : Nat) (Option.some Jvm.ClassFile.FieldType.boolean)) ∈ lw_all := lw_g (lw_at lw_m37 159 rfl) rfl
theorem q9192 : (Jvm.Cond.methodLink "WasteHouseModel$ApartCostModel" (114 : Nat) ({ cls := "WasteHouseModel$ApartCostModel", name := "isWorth", desc := "(J)Z" } : Jvm.MethodName)) ∈ lw_all := lw_g (lw_at lw_m37 160 rfl) rfl
theorem q9193 : (Jvm.Cond.static ({ cls := "WasteHouseModel$ApartCostModel", name := "isWorth", desc := "(J)Z" } : Jvm.MethodName)) ∈ lw_all := lw_g (lw_at lw_m37 161 rfl) rfl
theorem q9194 : (Jvm.Cond.code ({ cls := "WasteHouseModel$ApartCostModel", name := "isWorth", desc := "(J)Z" } : Jvm.MethodName) prog_57_method_4_code (2 : Nat) (Option.some Jvm.ClassFile.FieldType.boolean)) ∈ lw_all := lw_g (lw_at lw_m37 162 rfl) rfl
theorem q9195 : (Jvm.Cond.constantLong "WasteHouseModel$ApartCostModel" (87 : Nat) (-1000000 : Int64)) ∈ lw_all := lw_g (lw_at lw_m37 163 rfl) rfl
theorem q9199 : (Jvm.Cond.instanceMethod ({ cls := "WasteHouseModel$ApartCostModel", name := "rest", desc := "(JJ)Z" } : Jvm.MethodName)) ∈ lw_all := lw_g (lw_at lw_m37 167 rfl) rfl
theorem q9200 : (Jvm.Cond.selects "WasteHouseModel$ApartCostModel" ({ cls := "WasteHouseModel$ApartCostModel", name := "rest", desc := "(JJ)Z" } : Jvm.MethodName) ({ cls := "WasteHouseModel$ApartCostModel", name := "rest", desc := "(JJ)Z" } : Jvm.MethodName)) ∈ lw_all := lw_g (lw_at lw_m37 168 rfl) rfl
theorem q9201 : (Jvm.Cond.code ({ cls := "WasteHouseModel$ApartCostModel", name := "rest", desc := "(JJ)Z" } : Jvm.MethodName) prog_57_method_14_code (6 : Nat) (Option.some Jvm.ClassFile.FieldType.boolean)) ∈ lw_all := lw_g (lw_at lw_m37 169 rfl) rfl
theorem q9202 : (Jvm.Cond.constantLong "WasteHouseModel$ApartCostModel" (117 : Nat) (4095 : Int64)) ∈ lw_all := lw_g (lw_at lw_m37 170 rfl) rfl
theorem q9205 : (Jvm.Cond.instanceMethod ({ cls := "WasteHouseModel$ApartCostModel", name := "breaks", desc := "(I)Z" } : Jvm.MethodName)) ∈ lw_all := lw_g (lw_at lw_m37 173 rfl) rfl
theorem q9206 : (Jvm.Cond.selects "WasteHouseModel$ApartCostModel" ({ cls := "WasteHouseModel$ApartCostModel", name := "breaks", desc := "(I)Z" } : Jvm.MethodName) ({ cls := "WasteHouseModel$ApartCostModel", name := "breaks", desc := "(I)Z" } : Jvm.MethodName)) ∈ lw_all := lw_g (lw_at lw_m37 174 rfl) rfl
theorem q9207 : (Jvm.Cond.code ({ cls := "WasteHouseModel$ApartCostModel", name := "breaks", desc := "(I)Z" } : Jvm.MethodName) prog_57_method_15_code (2 : Nat) (Option.some Jvm.ClassFile.FieldType.boolean)) ∈ lw_all := lw_g (lw_at lw_m37 175 rfl) rfl
theorem q9210 : (Jvm.Cond.instanceMethod ({ cls := "WasteHouseModel$ApartCostModel", name := "sure", desc := "(IJJ)Z" } : Jvm.MethodName)) ∈ lw_all := lw_g (lw_at lw_m37 178 rfl) rfl
theorem q9211 : (Jvm.Cond.selects "WasteHouseModel$ApartCostModel" ({ cls := "WasteHouseModel$ApartCostModel", name := "sure", desc := "(IJJ)Z" } : Jvm.MethodName) ({ cls := "WasteHouseModel$ApartCostModel", name := "sure", desc := "(IJJ)Z" } : Jvm.MethodName)) ∈ lw_all := lw_g (lw_at lw_m37 179 rfl) rfl
theorem q9212 : (Jvm.Cond.code ({ cls := "WasteHouseModel$ApartCostModel", name := "sure", desc := "(IJJ)Z" } : Jvm.MethodName) prog_57_method_16_code (6 : Nat) (Option.some Jvm.ClassFile.FieldType.boolean)) ∈ lw_all := lw_g (lw_at lw_m37 180 rfl) rfl
theorem q9213 : (Jvm.Cond.constantLong "WasteHouseModel$ApartCostModel" (122 : Nat) (12 : Int64)) ∈ lw_all := lw_g (lw_at lw_m37 181 rfl) rfl
theorem q9216 : (Jvm.Cond.instanceMethod ({ cls := "WasteHouseModel$ApartCostModel", name := "states", desc := "()J" } : Jvm.MethodName)) ∈ lw_all := lw_g (lw_at lw_m37 184 rfl) rfl
theorem q9217 : (Jvm.Cond.selects "WasteHouseModel$ApartCostModel" ({ cls := "WasteHouseModel$ApartCostModel", name := "states", desc := "()J" } : Jvm.MethodName) ({ cls := "WasteHouseModel$ApartCostModel", name := "states", desc := "()J" } : Jvm.MethodName)) ∈ lw_all := lw_g (lw_at lw_m37 185 rfl) rfl
theorem q9218 : (Jvm.Cond.code ({ cls := "WasteHouseModel$ApartCostModel", name := "states", desc := "()J" } : Jvm.MethodName) prog_57_method_19_code (7 : Nat) (Option.some Jvm.ClassFile.FieldType.long)) ∈ lw_all := lw_g (lw_at lw_m37 186 rfl) rfl
theorem q9219 : (Jvm.Cond.methodLink "WasteHouseModel$ApartCostModel" (127 : Nat) ({ cls := "WasteHouseModel$ApartCostModel", name := "isClosed", desc := "(I)Z" } : Jvm.MethodName)) ∈ lw_all := lw_g (lw_at lw_m37 187 rfl) rfl
theorem q9220 : (Jvm.Cond.privateMethod ({ cls := "WasteHouseModel$ApartCostModel", name := "isClosed", desc := "(I)Z" } : Jvm.MethodName)) ∈ lw_tbl := lw_at lw_m37 188 rfl
theorem q9221 : (Jvm.Cond.instanceMethod ({ cls := "WasteHouseModel$ApartCostModel", name := "isClosed", desc := "(I)Z" } : Jvm.MethodName)) ∈ lw_all := lw_g (lw_at lw_m37 189 rfl) rfl
theorem q9222 : (Jvm.Cond.code ({ cls := "WasteHouseModel$ApartCostModel", name := "isClosed", desc := "(I)Z" } : Jvm.MethodName) prog_57_method_18_code (5 : Nat) (Option.some Jvm.ClassFile.FieldType.boolean)) ∈ lw_all := lw_g (lw_at lw_m37 190 rfl) rfl
theorem q9223 : (Jvm.Cond.methodLink "WasteHouseModel$ApartCostModel" (124 : Nat) ({ cls := "WasteHouseModel$ApartCostModel", name := "has", desc := "(II)Z" } : Jvm.MethodName)) ∈ lw_all := lw_g (lw_at lw_m37 191 rfl) rfl
theorem q9224 : (Jvm.Cond.static ({ cls := "WasteHouseModel$ApartCostModel", name := "has", desc := "(II)Z" } : Jvm.MethodName)) ∈ lw_all := lw_g (lw_at lw_m37 192 rfl) rfl
theorem q9225 : (Jvm.Cond.code ({ cls := "WasteHouseModel$ApartCostModel", name := "has", desc := "(II)Z" } : Jvm.MethodName) prog_57_method_17_code (2 : Nat) (Option.some Jvm.ClassFile.FieldType.boolean)) ∈ lw_all := lw_g (lw_at lw_m37 193 rfl) rfl
theorem q9227 : (Jvm.Cond.instanceMethod ({ cls := "WasteHouseModel$ApartCostModel", name := "run", desc := "(J)I" } : Jvm.MethodName)) ∈ lw_all := lw_g (lw_at lw_m37 195 rfl) rfl
theorem q9228 : (Jvm.Cond.selects "WasteHouseModel$ApartCostModel" ({ cls := "WasteHouseModel$ApartCostModel", name := "run", desc := "(J)I" } : Jvm.MethodName) ({ cls := "WasteHouseModel$ApartCostModel", name := "run", desc := "(J)I" } : Jvm.MethodName)) ∈ lw_all := lw_g (lw_at lw_m37 196 rfl) rfl
theorem q9229 : (Jvm.Cond.code ({ cls := "WasteHouseModel$ApartCostModel", name := "run", desc := "(J)I" } : Jvm.MethodName) prog_57_method_28_code (8 : Nat) (Option.some Jvm.ClassFile.FieldType.int)) ∈ lw_all := lw_g (lw_at lw_m37 197 rfl) rfl
theorem q9230 : (Jvm.Cond.methodLink "WasteHouseModel$ApartCostModel" (159 : Nat) ({ cls := "WasteHouseModel$ApartCostModel", name := "states", desc := "()J" } : Jvm.MethodName)) ∈ lw_all := lw_g (lw_at lw_m37 198 rfl) rfl
theorem q9231 : (Jvm.Cond.methodLink "WasteHouseModel$ApartCostModel" (163 : Nat) ({ cls := "WasteHouseModel$ApartCostModel", name := "reckonValues", desc := "()V" } : Jvm.MethodName)) ∈ lw_all := lw_g (lw_at lw_m37 199 rfl) rfl
theorem q9232 : (Jvm.Cond.privateMethod ({ cls := "WasteHouseModel$ApartCostModel", name := "reckonValues", desc := "()V" } : Jvm.MethodName)) ∈ lw_tbl := lw_at lw_m37 200 rfl
theorem q9233 : (Jvm.Cond.instanceMethod ({ cls := "WasteHouseModel$ApartCostModel", name := "reckonValues", desc := "()V" } : Jvm.MethodName)) ∈ lw_all := lw_g (lw_at lw_m37 201 rfl) rfl
theorem q9234 : (Jvm.Cond.code ({ cls := "WasteHouseModel$ApartCostModel", name := "reckonValues", desc := "()V" } : Jvm.MethodName) prog_57_method_25_code (3 : Nat) (Option.none : Option Jvm.ClassFile.FieldType)) ∈ lw_all := lw_g (lw_at lw_m37 202 rfl) rfl
theorem q9235 : (Jvm.Cond.methodLink "WasteHouseModel$ApartCostModel" (143 : Nat) ({ cls := "WasteHouseModel$ApartCostModel", name := "valueOf", desc := "(I)J" } : Jvm.MethodName)) ∈ lw_all := lw_g (lw_at lw_m37 203 rfl) rfl
theorem q9236 : (Jvm.Cond.privateMethod ({ cls := "WasteHouseModel$ApartCostModel", name := "valueOf", desc := "(I)J" } : Jvm.MethodName)) ∈ lw_tbl := lw_at lw_m37 204 rfl
theorem q9237 : (Jvm.Cond.instanceMethod ({ cls := "WasteHouseModel$ApartCostModel", name := "valueOf", desc := "(I)J" } : Jvm.MethodName)) ∈ lw_all := lw_g (lw_at lw_m37 205 rfl) rfl
theorem q9238 : (Jvm.Cond.code ({ cls := "WasteHouseModel$ApartCostModel", name := "valueOf", desc := "(I)J" } : Jvm.MethodName) prog_57_method_22_code (6 : Nat) (Option.some Jvm.ClassFile.FieldType.long)) ∈ lw_all := lw_g (lw_at lw_m37 206 rfl) rfl
theorem q9239 : (Jvm.Cond.methodLink "WasteHouseModel$ApartCostModel" (135 : Nat) ({ cls := "WasteHouseModel$ApartCostModel", name := "bringsOf", desc := "(II)J" } : Jvm.MethodName)) ∈ lw_all := lw_g (lw_at lw_m37 207 rfl) rfl
theorem q9240 : (Jvm.Cond.privateMethod ({ cls := "WasteHouseModel$ApartCostModel", name := "bringsOf", desc := "(II)J" } : Jvm.MethodName)) ∈ lw_tbl := lw_at lw_m37 208 rfl
theorem q9241 : (Jvm.Cond.instanceMethod ({ cls := "WasteHouseModel$ApartCostModel", name := "bringsOf", desc := "(II)J" } : Jvm.MethodName)) ∈ lw_all := lw_g (lw_at lw_m37 209 rfl) rfl
theorem q9242 : (Jvm.Cond.code ({ cls := "WasteHouseModel$ApartCostModel", name := "bringsOf", desc := "(II)J" } : Jvm.MethodName) prog_57_method_20_code (7 : Nat) (Option.some Jvm.ClassFile.FieldType.long)) ∈ lw_all := lw_g (lw_at lw_m37 210 rfl) rfl
theorem q9243 : (Jvm.Cond.constantLong "WasteHouseModel$ApartCostModel" (133 : Nat) (27720 : Int64)) ∈ lw_all := lw_g (lw_at lw_m37 211 rfl) rfl
theorem q9244 : (Jvm.Cond.methodLink "WasteHouseModel$ApartCostModel" (139 : Nat) ({ cls := "WasteHouseModel$ApartCostModel", name := "restOf", desc := "(I)I" } : Jvm.MethodName)) ∈ lw_all := lw_g (lw_at lw_m37 212 rfl) rfl
theorem q9245 : (Jvm.Cond.privateMethod ({ cls := "WasteHouseModel$ApartCostModel", name := "restOf", desc := "(I)I" } : Jvm.MethodName)) ∈ lw_tbl := lw_at lw_m37 213 rfl
theorem q9246 : (Jvm.Cond.instanceMethod ({ cls := "WasteHouseModel$ApartCostModel", name := "restOf", desc := "(I)I" } : Jvm.MethodName)) ∈ lw_all := lw_g (lw_at lw_m37 214 rfl) rfl
theorem q9247 : (Jvm.Cond.code ({ cls := "WasteHouseModel$ApartCostModel", name := "restOf", desc := "(I)I" } : Jvm.MethodName) prog_57_method_21_code (4 : Nat) (Option.some Jvm.ClassFile.FieldType.int)) ∈ lw_all := lw_g (lw_at lw_m37 215 rfl) rfl
theorem q9248 : (Jvm.Cond.methodLink "WasteHouseModel$ApartCostModel" (166 : Nat) ({ cls := "WasteHouseModel$ApartCostModel", name := "bestFrom", desc := "(IIJ)J" } : Jvm.MethodName)) ∈ lw_all := lw_g (lw_at lw_m37 216 rfl) rfl
theorem q9249 : (Jvm.Cond.privateMethod ({ cls := "WasteHouseModel$ApartCostModel", name := "bestFrom", desc := "(IIJ)J" } : Jvm.MethodName)) ∈ lw_tbl := lw_at lw_m37 217 rfl
theorem q9250 : (Jvm.Cond.instanceMethod ({ cls := "WasteHouseModel$ApartCostModel", name := "bestFrom", desc := "(IIJ)J" } : Jvm.MethodName)) ∈ lw_all := lw_g (lw_at lw_m37 218 rfl) rfl
theorem q9251 : (Jvm.Cond.code ({ cls := "WasteHouseModel$ApartCostModel", name := "bestFrom", desc := "(IIJ)J" } : Jvm.MethodName) prog_57_method_26_code (11 : Nat) (Option.some Jvm.ClassFile.FieldType.long)) ∈ lw_all := lw_g (lw_at lw_m37 219 rfl) rfl
theorem q9252 : (Jvm.Cond.constantLong "WasteHouseModel$ApartCostModel" (147 : Nat) (1000000000000000 : Int64)) ∈ lw_all := lw_g (lw_at lw_m37 220 rfl) rfl
theorem q9253 : (Jvm.Cond.methodLink "WasteHouseModel$ApartCostModel" (149 : Nat) ({ cls := "WasteHouseModel$ApartCostModel", name := "canDo", desc := "(II)Z" } : Jvm.MethodName)) ∈ lw_all := lw_g (lw_at lw_m37 221 rfl) rfl
theorem q9254 : (Jvm.Cond.privateMethod ({ cls := "WasteHouseModel$ApartCostModel", name := "canDo", desc := "(II)Z" } : Jvm.MethodName)) ∈ lw_tbl := lw_at lw_m37 222 rfl
theorem q9255 : (Jvm.Cond.instanceMethod ({ cls := "WasteHouseModel$ApartCostModel", name := "canDo", desc := "(II)Z" } : Jvm.MethodName)) ∈ lw_all := lw_g (lw_at lw_m37 223 rfl) rfl
theorem q9256 : (Jvm.Cond.code ({ cls := "WasteHouseModel$ApartCostModel", name := "canDo", desc := "(II)Z" } : Jvm.MethodName) prog_57_method_24_code (3 : Nat) (Option.some Jvm.ClassFile.FieldType.boolean)) ∈ lw_all := lw_g (lw_at lw_m37 224 rfl) rfl
theorem q9257 : (Jvm.Cond.methodLink "WasteHouseModel$ApartCostModel" (152 : Nat) ({ cls := "WasteHouseModel$ApartCostModel", name := "stepCost", desc := "(II)J" } : Jvm.MethodName)) ∈ lw_all := lw_g (lw_at lw_m37 225 rfl) rfl
theorem q9258 : (Jvm.Cond.privateMethod ({ cls := "WasteHouseModel$ApartCostModel", name := "stepCost", desc := "(II)J" } : Jvm.MethodName)) ∈ lw_tbl := lw_at lw_m37 226 rfl
theorem q9259 : (Jvm.Cond.instanceMethod ({ cls := "WasteHouseModel$ApartCostModel", name := "stepCost", desc := "(II)J" } : Jvm.MethodName)) ∈ lw_all := lw_g (lw_at lw_m37 227 rfl) rfl
theorem q9260 : (Jvm.Cond.code ({ cls := "WasteHouseModel$ApartCostModel", name := "stepCost", desc := "(II)J" } : Jvm.MethodName) prog_57_method_23_code (5 : Nat) (Option.some Jvm.ClassFile.FieldType.long)) ∈ lw_all := lw_g (lw_at lw_m37 228 rfl) rfl
theorem q9261 : (Jvm.Cond.methodLink "WasteHouseModel$ApartCostModel" (155 : Nat) ({ cls := "WasteHouseModel$ApartCostModel", name := "spread", desc := "(IIJ)V" } : Jvm.MethodName)) ∈ lw_all := lw_g (lw_at lw_m37 229 rfl) rfl
theorem q9262 : (Jvm.Cond.privateMethod ({ cls := "WasteHouseModel$ApartCostModel", name := "spread", desc := "(IIJ)V" } : Jvm.MethodName)) ∈ lw_tbl := lw_at lw_m37 230 rfl
theorem q9263 : (Jvm.Cond.instanceMethod ({ cls := "WasteHouseModel$ApartCostModel", name := "spread", desc := "(IIJ)V" } : Jvm.MethodName)) ∈ lw_all := lw_g (lw_at lw_m37 231 rfl) rfl
theorem q9264 : (Jvm.Cond.code ({ cls := "WasteHouseModel$ApartCostModel", name := "spread", desc := "(IIJ)V" } : Jvm.MethodName) prog_57_method_27_code (9 : Nat) (Option.none : Option Jvm.ClassFile.FieldType)) ∈ lw_all := lw_g (lw_at lw_m37 232 rfl) rfl
theorem q9266 : (Jvm.Cond.instanceMethod ({ cls := "WasteHouseModel$ApartCostModel", name := "step", desc := "(I)I" } : Jvm.MethodName)) ∈ lw_all := lw_g (lw_at lw_m37 234 rfl) rfl
theorem q9267 : (Jvm.Cond.selects "WasteHouseModel$ApartCostModel" ({ cls := "WasteHouseModel$ApartCostModel", name := "step", desc := "(I)I" } : Jvm.MethodName) ({ cls := "WasteHouseModel$ApartCostModel", name := "step", desc := "(I)I" } : Jvm.MethodName)) ∈ lw_all := lw_g (lw_at lw_m37 235 rfl) rfl
theorem q9268 : (Jvm.Cond.code ({ cls := "WasteHouseModel$ApartCostModel", name := "step", desc := "(I)I" } : Jvm.MethodName) prog_57_method_29_code (2 : Nat) (Option.some Jvm.ClassFile.FieldType.int)) ∈ lw_all := lw_g (lw_at lw_m37 236 rfl) rfl
theorem q9271 : (Jvm.Cond.instanceMethod ({ cls := "WasteHouseModel$ApartCostModel", name := "stops", desc := "(I)I" } : Jvm.MethodName)) ∈ lw_all := lw_g (lw_at lw_m37 239 rfl) rfl
theorem q9272 : (Jvm.Cond.selects "WasteHouseModel$ApartCostModel" ({ cls := "WasteHouseModel$ApartCostModel", name := "stops", desc := "(I)I" } : Jvm.MethodName) ({ cls := "WasteHouseModel$ApartCostModel", name := "stops", desc := "(I)I" } : Jvm.MethodName)) ∈ lw_all := lw_g (lw_at lw_m38 0 rfl) rfl
theorem q9273 : (Jvm.Cond.code ({ cls := "WasteHouseModel$ApartCostModel", name := "stops", desc := "(I)I" } : Jvm.MethodName) prog_57_method_30_code (4 : Nat) (Option.some Jvm.ClassFile.FieldType.int)) ∈ lw_all := lw_g (lw_at lw_m38 1 rfl) rfl
theorem q9276 : (Jvm.Cond.instanceMethod ({ cls := "WasteHouseModel$ApartCostModel", name := "other", desc := "(I)I" } : Jvm.MethodName)) ∈ lw_all := lw_g (lw_at lw_m38 4 rfl) rfl
theorem q9277 : (Jvm.Cond.selects "WasteHouseModel$ApartCostModel" ({ cls := "WasteHouseModel$ApartCostModel", name := "other", desc := "(I)I" } : Jvm.MethodName) ({ cls := "WasteHouseModel$ApartCostModel", name := "other", desc := "(I)I" } : Jvm.MethodName)) ∈ lw_all := lw_g (lw_at lw_m38 5 rfl) rfl
theorem q9278 : (Jvm.Cond.code ({ cls := "WasteHouseModel$ApartCostModel", name := "other", desc := "(I)I" } : Jvm.MethodName) prog_57_method_32_code (4 : Nat) (Option.some Jvm.ClassFile.FieldType.int)) ∈ lw_all := lw_g (lw_at lw_m38 6 rfl) rfl
theorem q9279 : (Jvm.Cond.methodLink "WasteHouseModel$ApartCostModel" (180 : Nat) ({ cls := "WasteHouseModel$ApartCostModel", name := "isInRow", desc := "(I)Z" } : Jvm.MethodName)) ∈ lw_all := lw_g (lw_at lw_m38 7 rfl) rfl
theorem q9280 : (Jvm.Cond.privateMethod ({ cls := "WasteHouseModel$ApartCostModel", name := "isInRow", desc := "(I)Z" } : Jvm.MethodName)) ∈ lw_tbl := lw_at lw_m38 8 rfl
theorem q9281 : (Jvm.Cond.instanceMethod ({ cls := "WasteHouseModel$ApartCostModel", name := "isInRow", desc := "(I)Z" } : Jvm.MethodName)) ∈ lw_all := lw_g (lw_at lw_m38 9 rfl) rfl
theorem q9282 : (Jvm.Cond.code ({ cls := "WasteHouseModel$ApartCostModel", name := "isInRow", desc := "(I)Z" } : Jvm.MethodName) prog_57_method_31_code (4 : Nat) (Option.some Jvm.ClassFile.FieldType.boolean)) ∈ lw_all := lw_g (lw_at lw_m38 10 rfl) rfl
theorem q9285 : (Jvm.Cond.instanceMethod ({ cls := "WasteHouseModel$ApartCostModel", name := "gain", desc := "(I)J" } : Jvm.MethodName)) ∈ lw_all := lw_g (lw_at lw_m38 13 rfl) rfl
theorem q9286 : (Jvm.Cond.selects "WasteHouseModel$ApartCostModel" ({ cls := "WasteHouseModel$ApartCostModel", name := "gain", desc := "(I)J" } : Jvm.MethodName) ({ cls := "WasteHouseModel$ApartCostModel", name := "gain", desc := "(I)J" } : Jvm.MethodName)) ∈ lw_all := lw_g (lw_at lw_m38 14 rfl) rfl
theorem q9287 : (Jvm.Cond.code ({ cls := "WasteHouseModel$ApartCostModel", name := "gain", desc := "(I)J" } : Jvm.MethodName) prog_57_method_33_code (2 : Nat) (Option.some Jvm.ClassFile.FieldType.long)) ∈ lw_all := lw_g (lw_at lw_m38 15 rfl) rfl
theorem q9290 : (Jvm.Cond.instanceMethod ({ cls := "WasteHouseModel$ApartCostModel", name := "proved", desc := "()Z" } : Jvm.MethodName)) ∈ lw_all := lw_g (lw_at lw_m38 18 rfl) rfl
theorem q9291 : (Jvm.Cond.selects "WasteHouseModel$ApartCostModel" ({ cls := "WasteHouseModel$ApartCostModel", name := "proved", desc := "()Z" } : Jvm.MethodName) ({ cls := "WasteHouseModel$ApartCostModel", name := "proved", desc := "()Z" } : Jvm.MethodName)) ∈ lw_all := lw_g (lw_at lw_m38 19 rfl) rfl
theorem q9292 : (Jvm.Cond.code ({ cls := "WasteHouseModel$ApartCostModel", name := "proved", desc := "()Z" } : Jvm.MethodName) prog_57_method_34_code (1 : Nat) (Option.some Jvm.ClassFile.FieldType.boolean)) ∈ lw_all := lw_g (lw_at lw_m38 20 rfl) rfl
theorem q9294 : (Jvm.Cond.instanceMethod ({ cls := "WasteHouseModel$ApartCostModel", name := "bound", desc := "()J" } : Jvm.MethodName)) ∈ lw_all := lw_g (lw_at lw_m38 22 rfl) rfl
theorem q9295 : (Jvm.Cond.selects "WasteHouseModel$ApartCostModel" ({ cls := "WasteHouseModel$ApartCostModel", name := "bound", desc := "()J" } : Jvm.MethodName) ({ cls := "WasteHouseModel$ApartCostModel", name := "bound", desc := "()J" } : Jvm.MethodName)) ∈ lw_all := lw_g (lw_at lw_m38 23 rfl) rfl
theorem q9296 : (Jvm.Cond.code ({ cls := "WasteHouseModel$ApartCostModel", name := "bound", desc := "()J" } : Jvm.MethodName) prog_57_method_35_code (6 : Nat) (Option.some Jvm.ClassFile.FieldType.long)) ∈ lw_all := lw_g (lw_at lw_m38 24 rfl) rfl
theorem q9298 : (Jvm.Cond.instanceMethod ({ cls := "WasteHouseModel$ApartCostModel", name := "test", desc := "(IJ)I" } : Jvm.MethodName)) ∈ lw_all := lw_g (lw_at lw_m38 26 rfl) rfl
theorem q9299 : (Jvm.Cond.selects "WasteHouseModel$ApartCostModel" ({ cls := "WasteHouseModel$ApartCostModel", name := "test", desc := "(IJ)I" } : Jvm.MethodName) ({ cls := "WasteHouseModel$ApartCostModel", name := "test", desc := "(IJ)I" } : Jvm.MethodName)) ∈ lw_all := lw_g (lw_at lw_m38 27 rfl) rfl
theorem q9300 : (Jvm.Cond.code ({ cls := "WasteHouseModel$ApartCostModel", name := "test", desc := "(IJ)I" } : Jvm.MethodName) prog_57_method_37_code (12 : Nat) (Option.some Jvm.ClassFile.FieldType.int)) ∈ lw_all := lw_g (lw_at lw_m38 28 rfl) rfl
theorem q9301 : (Jvm.Cond.methodLink "WasteHouseModel$ApartCostModel" (183 : Nat) ({ cls := "WasteHouseModel$ApartCostModel", name := "bestWith", desc := "(II)J" } : Jvm.MethodName)) ∈ lw_all := lw_g (lw_at lw_m38 29 rfl) rfl
theorem q9302 : (Jvm.Cond.privateMethod ({ cls := "WasteHouseModel$ApartCostModel", name := "bestWith", desc := "(II)J" } : Jvm.MethodName)) ∈ lw_tbl := lw_at lw_m38 30 rfl
theorem q9303 : (Jvm.Cond.instanceMethod ({ cls := "WasteHouseModel$ApartCostModel", name := "bestWith", desc := "(II)J" } : Jvm.MethodName)) ∈ lw_all := lw_g (lw_at lw_m38 31 rfl) rfl
theorem q9304 : (Jvm.Cond.code ({ cls := "WasteHouseModel$ApartCostModel", name := "bestWith", desc := "(II)J" } : Jvm.MethodName) prog_57_method_36_code (5 : Nat) (Option.some Jvm.ClassFile.FieldType.long)) ∈ lw_all := lw_g (lw_at lw_m38 32 rfl) rfl
theorem q9307 : (Jvm.Cond.instanceMethod ({ cls := "WasteHouseModel$ApartCostModel", name := "stations", desc := "(I)I" } : Jvm.MethodName)) ∈ lw_all := lw_g (lw_at lw_m38 35 rfl) rfl
theorem q9308 : (Jvm.Cond.selects "WasteHouseModel$ApartCostModel" ({ cls := "WasteHouseModel$ApartCostModel", name := "stations", desc := "(I)I" } : Jvm.MethodName) ({ cls := "WasteHouseModel$ApartCostModel", name := "stations", desc := "(I)I" } : Jvm.MethodName)) ∈ lw_all := lw_g (lw_at lw_m38 36 rfl) rfl
theorem q9309 : (Jvm.Cond.code ({ cls := "WasteHouseModel$ApartCostModel", name := "stations", desc := "(I)I" } : Jvm.MethodName) prog_57_method_40_code (10 : Nat) (Option.some Jvm.ClassFile.FieldType.int)) ∈ lw_all := lw_g (lw_at lw_m38 37 rfl) rfl
theorem q9310 : (Jvm.Cond.constantLong "WasteHouseModel$ApartCostModel" (186 : Nat) (-1 : Int64)) ∈ lw_all := lw_g (lw_at lw_m38 38 rfl) rfl
theorem q9311 : (Jvm.Cond.methodLink "WasteHouseModel$ApartCostModel" (188 : Nat) ({ cls := "WasteHouseModel$ApartCostModel", name := "keeps", desc := "([I)Z" } : Jvm.MethodName)) ∈ lw_all := lw_g (lw_at lw_m38 39 rfl) rfl
theorem q9312 : (Jvm.Cond.privateMethod ({ cls := "WasteHouseModel$ApartCostModel", name := "keeps", desc := "([I)Z" } : Jvm.MethodName)) ∈ lw_tbl := lw_at lw_m38 40 rfl
theorem q9313 : (Jvm.Cond.instanceMethod ({ cls := "WasteHouseModel$ApartCostModel", name := "keeps", desc := "([I)Z" } : Jvm.MethodName)) ∈ lw_all := lw_g (lw_at lw_m38 41 rfl) rfl
theorem q9314 : (Jvm.Cond.code ({ cls := "WasteHouseModel$ApartCostModel", name := "keeps", desc := "([I)Z" } : Jvm.MethodName) prog_57_method_38_code (5 : Nat) (Option.some Jvm.ClassFile.FieldType.boolean)) ∈ lw_all := lw_g (lw_at lw_m38 42 rfl) rfl
theorem q9315 : (Jvm.Cond.methodLink "WasteHouseModel$ApartCostModel" (192 : Nat) ({ cls := "WasteHouseModel$ApartCostModel", name := "longestOf", desc := "([I)J" } : Jvm.MethodName)) ∈ lw_all := lw_g (lw_at lw_m38 43 rfl) rfl
theorem q9316 : (Jvm.Cond.privateMethod ({ cls := "WasteHouseModel$ApartCostModel", name := "longestOf", desc := "([I)J" } : Jvm.MethodName)) ∈ lw_tbl := lw_at lw_m38 44 rfl
theorem q9317 : (Jvm.Cond.instanceMethod ({ cls := "WasteHouseModel$ApartCostModel", name := "longestOf", desc := "([I)J" } : Jvm.MethodName)) ∈ lw_all := lw_g (lw_at lw_m38 45 rfl) rfl
theorem q9318 : (Jvm.Cond.code ({ cls := "WasteHouseModel$ApartCostModel", name := "longestOf", desc := "([I)J" } : Jvm.MethodName) prog_57_method_39_code (8 : Nat) (Option.some Jvm.ClassFile.FieldType.long)) ∈ lw_all := lw_g (lw_at lw_m38 46 rfl) rfl
theorem q9321 : (Jvm.Cond.instanceMethod ({ cls := "WasteHouseModel$ApartCostModel", name := "station", desc := "(I)I" } : Jvm.MethodName)) ∈ lw_all := lw_g (lw_at lw_m38 49 rfl) rfl
theorem q9322 : (Jvm.Cond.selects "WasteHouseModel$ApartCostModel" ({ cls := "WasteHouseModel$ApartCostModel", name := "station", desc := "(I)I" } : Jvm.MethodName) ({ cls := "WasteHouseModel$ApartCostModel", name := "station", desc := "(I)I" } : Jvm.MethodName)) ∈ lw_all := lw_g (lw_at lw_m38 50 rfl) rfl
theorem q9323 : (Jvm.Cond.code ({ cls := "WasteHouseModel$ApartCostModel", name := "station", desc := "(I)I" } : Jvm.MethodName) prog_57_method_41_code (2 : Nat) (Option.some Jvm.ClassFile.FieldType.int)) ∈ lw_all := lw_g (lw_at lw_m38 51 rfl) rfl
theorem q9678 : (Jvm.Cond.castable "WasteHouseModel$ApartCostModel" "java/lang/Object") ∈ lw_tbl := lw_at lw_m39 166 rfl
theorem in_X55 : ∀ w ∈ wsX550, w ∈ lw_all := lw_in wsX550 [7261, 7263, 7265, 7267, 7269, 7271, 7273, 7275, 7277, 7279, 7281, 7283, 7285, 7287, 7289, 7291, 7293, 7295, 7297, 7299, 7301, 7303, 7305, 7307, 7309, 7311, 7313, 7315, 7317, 7319, 7321, 7323] (by decide +kernel) (by decide +kernel)
