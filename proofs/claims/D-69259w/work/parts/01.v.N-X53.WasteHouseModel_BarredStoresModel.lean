/-! WasteHouseModel$BarredStoresModel -/
set_option maxRecDepth 100000
def RX53 : String := "WasteHouseModel$BarredStoresModel"
def TX53 : u_T := fun k => match k with
  | 0 => ("WasteHouseModel$BarredStoresModel", "places", "I", false)
  | 1 => ("WasteHouseModel$BarredStoresModel", "xs", "[I", true)
  | 2 => ("WasteHouseModel$BarredStoresModel", "ys", "[I", true)
  | 3 => ("WasteHouseModel$BarredStoresModel", "basins", "[I", true)
  | 4 => ("WasteHouseModel$BarredStoresModel", "loads", "I", false)
  | 5 => ("WasteHouseModel$BarredStoresModel", "classes", "[I", true)
  | 6 => ("WasteHouseModel$BarredStoresModel", "grams", "[J", true)
  | 7 => ("WasteHouseModel$BarredStoresModel", "litres", "[J", true)
  | 8 => ("WasteHouseModel$BarredStoresModel", "gone", "[Z", true)
  | 9 => ("WasteHouseModel$BarredStoresModel", "at", "[I", true)
  | 10 => ("WasteHouseModel$BarredStoresModel", "came", "[I", true)
  | 11 => ("WasteHouseModel$BarredStoresModel", "clock", "I", false)
  | 12 => ("WasteHouseModel$BarredStoresModel", "apart", "[I", true)
  | 13 => ("WasteHouseModel$BarredStoresModel", "mosts", "[J", true)
  | 14 => ("WasteHouseModel$BarredStoresModel", "trials", "[I", true)
  | 15 => ("WasteHouseModel$BarredStoresModel", "keys", "[Z", true)
  | 16 => ("WasteHouseModel$BarredStoresModel", "inspected", "[I", true)
  | 17 => ("WasteHouseModel$BarredStoresModel", "left", "D", false)
  | 18 => ("WasteHouseModel$BarredStoresModel", "good", "[Z", true)
  | 19 => ("WasteHouseModel$BarredStoresModel", "distance", "[I", true)
  | 20 => ("WasteHouseModel$BarredStoresModel", "trial", "[I", true)
  | 21 => ("WasteHouseModel$BarredStoresModel", "stepLoad", "[I", true)
  | 22 => ("WasteHouseModel$BarredStoresModel", "stepPlace", "[I", true)
  | 23 => ("WasteHouseModel$BarredStoresModel", "steps", "I", false)
  | _ => ("WasteHouseModel$BarredStoresModel", "powers", "[I", true)
def tyX53 : Nat → FieldType := fun k => match k with
  | 0 => .int
  | 1 => .array .int
  | 2 => .array .int
  | 3 => .array .int
  | 4 => .int
  | 5 => .array .int
  | 6 => .array .long
  | 7 => .array .long
  | 8 => .array .boolean
  | 9 => .array .int
  | 10 => .array .int
  | 11 => .int
  | 12 => .array .int
  | 13 => .array .long
  | 14 => .array .int
  | 15 => .array .boolean
  | 16 => .array .int
  | 17 => .double
  | 18 => .array .boolean
  | 19 => .array .int
  | 20 => .array .int
  | 21 => .array .int
  | 22 => .array .int
  | 23 => .int
  | _ => .array .int
abbrev wsX530 : List Cond := u_ws RX53 TX53 25
set_option maxRecDepth 100000 in
theorem nmX53 : ∀ a, a < 25 → ∀ b, b < 25 → a ≠ b → (TX53 a).2.1 ≠ (TX53 b).2.1 := by decide +kernel
set_option maxRecDepth 100000 in
theorem tyX53_ok : ∀ k, k < 25 → parseFieldDescriptor (TX53 k).2.2.1 = some (tyX53 k) := by decide +kernel
abbrev cX53_init : ByteArray := prog_58_method_1_code
def yX53_init : MethodName := ⟨RX53, "<init>", "()V"⟩
def dkwX53_init_11 : List UInt8 := [46, 104, 79, 132, 1, 1, 167, 255, 231, 177]
abbrev dktX53_init_11 : List UInt8 := dkwX53_init_11 ++ []
def dkwX53_init_10 : List UInt8 := [3, 4, 79, 4, 60, 27, 16, 6, 163, 0, 25, 42, 180, 0, 73, 27, 8, 42, 180, 0, 73, 27, 4, 100]
abbrev dktX53_init_10 : List UInt8 := dkwX53_init_10 ++ dktX53_init_11
def dkwX53_init_9 : List UInt8 := [60, 27, 16, 6, 162, 0, 16, 42, 180, 0, 33, 27, 2, 79, 132, 1, 1, 167, 255, 240, 42, 180, 0, 73]
abbrev dktX53_init_9 : List UInt8 := dkwX53_init_9 ++ dktX53_init_10
def dkwX53_init_8 : List UInt8 := [167, 255, 238, 3, 60, 27, 7, 162, 0, 16, 42, 180, 0, 51, 27, 2, 79, 132, 1, 1, 167, 255, 241, 3]
abbrev dktX53_init_8 : List UInt8 := dkwX53_init_8 ++ dktX53_init_9
def dkwX53_init_7 : List UInt8 := [181, 0, 73, 3, 60, 27, 16, 6, 162, 0, 18, 42, 180, 0, 42, 27, 20, 0, 76, 80, 132, 1, 1]
abbrev dktX53_init_7 : List UInt8 := dkwX53_init_7 ++ dktX53_init_8
def dkwX53_init_6 : List UInt8 := [188, 10, 181, 0, 63, 42, 17, 61, 9, 188, 10, 181, 0, 66, 42, 2, 181, 0, 69, 42, 16, 7, 188, 10]
abbrev dktX53_init_6 : List UInt8 := dkwX53_init_6 ++ dktX53_init_7
def dkwX53_init_5 : List UInt8 := [181, 0, 54, 42, 17, 61, 9, 188, 10, 181, 0, 57, 42, 16, 6, 188, 10, 181, 0, 60, 42, 17, 61, 9]
abbrev dktX53_init_5 : List UInt8 := dkwX53_init_5 ++ dktX53_init_6
def dkwX53_init_4 : List UInt8 := [181, 0, 45, 42, 16, 40, 188, 4, 181, 0, 48, 42, 7, 188, 10, 181, 0, 51, 42, 17, 61, 9, 188, 4]
abbrev dktX53_init_4 : List UInt8 := dkwX53_init_4 ++ dktX53_init_5
def dkwX53_init_3 : List UInt8 := [181, 0, 36, 42, 16, 36, 188, 10, 181, 0, 39, 42, 16, 6, 188, 11, 181, 0, 42, 42, 16, 36, 188, 10]
abbrev dktX53_init_3 : List UInt8 := dkwX53_init_3 ++ dktX53_init_4
def dkwX53_init_2 : List UInt8 := [181, 0, 26, 42, 16, 6, 188, 4, 181, 0, 29, 42, 16, 6, 188, 10, 181, 0, 33, 42, 16, 6, 188, 10]
abbrev dktX53_init_2 : List UInt8 := dkwX53_init_2 ++ dktX53_init_3
def dkwX53_init_1 : List UInt8 := [181, 0, 16, 42, 16, 6, 188, 10, 181, 0, 19, 42, 16, 6, 188, 11, 181, 0, 22, 42, 16, 6, 188, 11]
abbrev dktX53_init_1 : List UInt8 := dkwX53_init_1 ++ dktX53_init_2
def dkwX53_init_0 : List UInt8 := [42, 183, 0, 1, 42, 7, 188, 10, 181, 0, 7, 42, 7, 188, 10, 181, 0, 13, 42, 7, 188, 10]
abbrev dktX53_init_0 : List UInt8 := dkwX53_init_0 ++ dktX53_init_1
theorem dksX53_init_0 : cX53_init.data.toList.drop 0 = dktX53_init_0 := by decide +kernel
theorem dksX53_init_1 : cX53_init.data.toList.drop 22 = dktX53_init_1 := dk_seg dksX53_init_0 22 rfl rfl
theorem dksX53_init_2 : cX53_init.data.toList.drop 46 = dktX53_init_2 := dk_seg dksX53_init_1 24 rfl rfl
theorem dksX53_init_3 : cX53_init.data.toList.drop 70 = dktX53_init_3 := dk_seg dksX53_init_2 24 rfl rfl
theorem dksX53_init_4 : cX53_init.data.toList.drop 94 = dktX53_init_4 := dk_seg dksX53_init_3 24 rfl rfl
theorem dksX53_init_5 : cX53_init.data.toList.drop 118 = dktX53_init_5 := dk_seg dksX53_init_4 24 rfl rfl
theorem dksX53_init_6 : cX53_init.data.toList.drop 142 = dktX53_init_6 := dk_seg dksX53_init_5 24 rfl rfl
theorem dksX53_init_7 : cX53_init.data.toList.drop 166 = dktX53_init_7 := dk_seg dksX53_init_6 24 rfl rfl
theorem dksX53_init_8 : cX53_init.data.toList.drop 189 = dktX53_init_8 := dk_seg dksX53_init_7 23 rfl rfl
theorem dksX53_init_9 : cX53_init.data.toList.drop 213 = dktX53_init_9 := dk_seg dksX53_init_8 24 rfl rfl
theorem dksX53_init_10 : cX53_init.data.toList.drop 237 = dktX53_init_10 := dk_seg dksX53_init_9 24 rfl rfl
theorem dksX53_init_11 : cX53_init.data.toList.drop 261 = dktX53_init_11 := dk_seg dksX53_init_10 24 rfl rfl
theorem dX53_init_0 : decode cX53_init 0 = .ok (.aload_n 0, 1) := dk_42 (dk_at dksX53_init_0 0 rfl rfl)
theorem dX53_init_1 : decode cX53_init 1 = .ok (.invokespecial 1, 3) := dk_183 0 1 (dk_at dksX53_init_0 1 rfl rfl)
theorem dX53_init_4 : decode cX53_init 4 = .ok (.aload_n 0, 1) := dk_42 (dk_at dksX53_init_0 4 rfl rfl)
theorem dX53_init_5 : decode cX53_init 5 = .ok (.iconst 4, 1) := dk_7 (dk_at dksX53_init_0 5 rfl rfl)
theorem dX53_init_6 : decode cX53_init 6 = .ok (.newarray .int, 2) := dk_188_10 (dk_at dksX53_init_0 6 rfl rfl)
theorem dX53_init_8 : decode cX53_init 8 = .ok (.putfield 7, 3) := dk_181 0 7 (dk_at dksX53_init_0 8 rfl rfl)
theorem dX53_init_11 : decode cX53_init 11 = .ok (.aload_n 0, 1) := dk_42 (dk_at dksX53_init_0 11 rfl rfl)
theorem dX53_init_12 : decode cX53_init 12 = .ok (.iconst 4, 1) := dk_7 (dk_at dksX53_init_0 12 rfl rfl)
theorem dX53_init_13 : decode cX53_init 13 = .ok (.newarray .int, 2) := dk_188_10 (dk_at dksX53_init_0 13 rfl rfl)
theorem dX53_init_15 : decode cX53_init 15 = .ok (.putfield 13, 3) := dk_181 0 13 (dk_at dksX53_init_0 15 rfl rfl)
theorem dX53_init_18 : decode cX53_init 18 = .ok (.aload_n 0, 1) := dk_42 (dk_at dksX53_init_0 18 rfl rfl)
theorem dX53_init_19 : decode cX53_init 19 = .ok (.iconst 4, 1) := dk_7 (dk_at dksX53_init_0 19 rfl rfl)
theorem dX53_init_20 : decode cX53_init 20 = .ok (.newarray .int, 2) := dk_188_10 (dk_at dksX53_init_0 20 rfl rfl)
theorem dX53_init_22 : decode cX53_init 22 = .ok (.putfield 16, 3) := dk_181 0 16 (dk_at dksX53_init_1 0 rfl rfl)
theorem dX53_init_25 : decode cX53_init 25 = .ok (.aload_n 0, 1) := dk_42 (dk_at dksX53_init_1 3 rfl rfl)
theorem dX53_init_26 : decode cX53_init 26 = .ok (.bipush 6, 2) := dk_16 6 (dk_at dksX53_init_1 4 rfl rfl)
theorem dX53_init_28 : decode cX53_init 28 = .ok (.newarray .int, 2) := dk_188_10 (dk_at dksX53_init_1 6 rfl rfl)
theorem dX53_init_30 : decode cX53_init 30 = .ok (.putfield 19, 3) := dk_181 0 19 (dk_at dksX53_init_1 8 rfl rfl)
theorem dX53_init_33 : decode cX53_init 33 = .ok (.aload_n 0, 1) := dk_42 (dk_at dksX53_init_1 11 rfl rfl)
theorem dX53_init_34 : decode cX53_init 34 = .ok (.bipush 6, 2) := dk_16 6 (dk_at dksX53_init_1 12 rfl rfl)
theorem dX53_init_36 : decode cX53_init 36 = .ok (.newarray .long, 2) := dk_188_11 (dk_at dksX53_init_1 14 rfl rfl)
theorem dX53_init_38 : decode cX53_init 38 = .ok (.putfield 22, 3) := dk_181 0 22 (dk_at dksX53_init_1 16 rfl rfl)
theorem dX53_init_41 : decode cX53_init 41 = .ok (.aload_n 0, 1) := dk_42 (dk_at dksX53_init_1 19 rfl rfl)
theorem dX53_init_42 : decode cX53_init 42 = .ok (.bipush 6, 2) := dk_16 6 (dk_at dksX53_init_1 20 rfl rfl)
theorem dX53_init_44 : decode cX53_init 44 = .ok (.newarray .long, 2) := dk_188_11 (dk_at dksX53_init_1 22 rfl rfl)
theorem dX53_init_46 : decode cX53_init 46 = .ok (.putfield 26, 3) := dk_181 0 26 (dk_at dksX53_init_2 0 rfl rfl)
theorem dX53_init_49 : decode cX53_init 49 = .ok (.aload_n 0, 1) := dk_42 (dk_at dksX53_init_2 3 rfl rfl)
theorem dX53_init_50 : decode cX53_init 50 = .ok (.bipush 6, 2) := dk_16 6 (dk_at dksX53_init_2 4 rfl rfl)
theorem dX53_init_52 : decode cX53_init 52 = .ok (.newarray .boolean, 2) := dk_188_4 (dk_at dksX53_init_2 6 rfl rfl)
theorem dX53_init_54 : decode cX53_init 54 = .ok (.putfield 29, 3) := dk_181 0 29 (dk_at dksX53_init_2 8 rfl rfl)
theorem dX53_init_57 : decode cX53_init 57 = .ok (.aload_n 0, 1) := dk_42 (dk_at dksX53_init_2 11 rfl rfl)
theorem dX53_init_58 : decode cX53_init 58 = .ok (.bipush 6, 2) := dk_16 6 (dk_at dksX53_init_2 12 rfl rfl)
theorem dX53_init_60 : decode cX53_init 60 = .ok (.newarray .int, 2) := dk_188_10 (dk_at dksX53_init_2 14 rfl rfl)
theorem dX53_init_62 : decode cX53_init 62 = .ok (.putfield 33, 3) := dk_181 0 33 (dk_at dksX53_init_2 16 rfl rfl)
theorem dX53_init_65 : decode cX53_init 65 = .ok (.aload_n 0, 1) := dk_42 (dk_at dksX53_init_2 19 rfl rfl)
theorem dX53_init_66 : decode cX53_init 66 = .ok (.bipush 6, 2) := dk_16 6 (dk_at dksX53_init_2 20 rfl rfl)
theorem dX53_init_68 : decode cX53_init 68 = .ok (.newarray .int, 2) := dk_188_10 (dk_at dksX53_init_2 22 rfl rfl)
theorem dX53_init_70 : decode cX53_init 70 = .ok (.putfield 36, 3) := dk_181 0 36 (dk_at dksX53_init_3 0 rfl rfl)
theorem dX53_init_73 : decode cX53_init 73 = .ok (.aload_n 0, 1) := dk_42 (dk_at dksX53_init_3 3 rfl rfl)
theorem dX53_init_74 : decode cX53_init 74 = .ok (.bipush 36, 2) := dk_16 36 (dk_at dksX53_init_3 4 rfl rfl)
theorem dX53_init_76 : decode cX53_init 76 = .ok (.newarray .int, 2) := dk_188_10 (dk_at dksX53_init_3 6 rfl rfl)
theorem dX53_init_78 : decode cX53_init 78 = .ok (.putfield 39, 3) := dk_181 0 39 (dk_at dksX53_init_3 8 rfl rfl)
theorem dX53_init_81 : decode cX53_init 81 = .ok (.aload_n 0, 1) := dk_42 (dk_at dksX53_init_3 11 rfl rfl)
theorem dX53_init_82 : decode cX53_init 82 = .ok (.bipush 6, 2) := dk_16 6 (dk_at dksX53_init_3 12 rfl rfl)
theorem dX53_init_84 : decode cX53_init 84 = .ok (.newarray .long, 2) := dk_188_11 (dk_at dksX53_init_3 14 rfl rfl)
theorem dX53_init_86 : decode cX53_init 86 = .ok (.putfield 42, 3) := dk_181 0 42 (dk_at dksX53_init_3 16 rfl rfl)
theorem dX53_init_89 : decode cX53_init 89 = .ok (.aload_n 0, 1) := dk_42 (dk_at dksX53_init_3 19 rfl rfl)
theorem dX53_init_90 : decode cX53_init 90 = .ok (.bipush 36, 2) := dk_16 36 (dk_at dksX53_init_3 20 rfl rfl)
theorem dX53_init_92 : decode cX53_init 92 = .ok (.newarray .int, 2) := dk_188_10 (dk_at dksX53_init_3 22 rfl rfl)
theorem dX53_init_94 : decode cX53_init 94 = .ok (.putfield 45, 3) := dk_181 0 45 (dk_at dksX53_init_4 0 rfl rfl)
theorem dX53_init_97 : decode cX53_init 97 = .ok (.aload_n 0, 1) := dk_42 (dk_at dksX53_init_4 3 rfl rfl)
theorem dX53_init_98 : decode cX53_init 98 = .ok (.bipush 40, 2) := dk_16 40 (dk_at dksX53_init_4 4 rfl rfl)
theorem dX53_init_100 : decode cX53_init 100 = .ok (.newarray .boolean, 2) := dk_188_4 (dk_at dksX53_init_4 6 rfl rfl)
theorem dX53_init_102 : decode cX53_init 102 = .ok (.putfield 48, 3) := dk_181 0 48 (dk_at dksX53_init_4 8 rfl rfl)
theorem dX53_init_105 : decode cX53_init 105 = .ok (.aload_n 0, 1) := dk_42 (dk_at dksX53_init_4 11 rfl rfl)
theorem dX53_init_106 : decode cX53_init 106 = .ok (.iconst 4, 1) := dk_7 (dk_at dksX53_init_4 12 rfl rfl)
theorem dX53_init_107 : decode cX53_init 107 = .ok (.newarray .int, 2) := dk_188_10 (dk_at dksX53_init_4 13 rfl rfl)
theorem dX53_init_109 : decode cX53_init 109 = .ok (.putfield 51, 3) := dk_181 0 51 (dk_at dksX53_init_4 15 rfl rfl)
theorem dX53_init_112 : decode cX53_init 112 = .ok (.aload_n 0, 1) := dk_42 (dk_at dksX53_init_4 18 rfl rfl)
theorem dX53_init_113 : decode cX53_init 113 = .ok (.sipush 15625, 3) := dk_17 61 9 (dk_at dksX53_init_4 19 rfl rfl)
theorem dX53_init_116 : decode cX53_init 116 = .ok (.newarray .boolean, 2) := dk_188_4 (dk_at dksX53_init_4 22 rfl rfl)
theorem dX53_init_118 : decode cX53_init 118 = .ok (.putfield 54, 3) := dk_181 0 54 (dk_at dksX53_init_5 0 rfl rfl)
theorem dX53_init_121 : decode cX53_init 121 = .ok (.aload_n 0, 1) := dk_42 (dk_at dksX53_init_5 3 rfl rfl)
theorem dX53_init_122 : decode cX53_init 122 = .ok (.sipush 15625, 3) := dk_17 61 9 (dk_at dksX53_init_5 4 rfl rfl)
theorem dX53_init_125 : decode cX53_init 125 = .ok (.newarray .int, 2) := dk_188_10 (dk_at dksX53_init_5 7 rfl rfl)
theorem dX53_init_127 : decode cX53_init 127 = .ok (.putfield 57, 3) := dk_181 0 57 (dk_at dksX53_init_5 9 rfl rfl)
theorem dX53_init_130 : decode cX53_init 130 = .ok (.aload_n 0, 1) := dk_42 (dk_at dksX53_init_5 12 rfl rfl)
theorem dX53_init_131 : decode cX53_init 131 = .ok (.bipush 6, 2) := dk_16 6 (dk_at dksX53_init_5 13 rfl rfl)
theorem dX53_init_133 : decode cX53_init 133 = .ok (.newarray .int, 2) := dk_188_10 (dk_at dksX53_init_5 15 rfl rfl)
theorem dX53_init_135 : decode cX53_init 135 = .ok (.putfield 60, 3) := dk_181 0 60 (dk_at dksX53_init_5 17 rfl rfl)
theorem dX53_init_138 : decode cX53_init 138 = .ok (.aload_n 0, 1) := dk_42 (dk_at dksX53_init_5 20 rfl rfl)
theorem dX53_init_139 : decode cX53_init 139 = .ok (.sipush 15625, 3) := dk_17 61 9 (dk_at dksX53_init_5 21 rfl rfl)
theorem dX53_init_142 : decode cX53_init 142 = .ok (.newarray .int, 2) := dk_188_10 (dk_at dksX53_init_6 0 rfl rfl)
theorem dX53_init_144 : decode cX53_init 144 = .ok (.putfield 63, 3) := dk_181 0 63 (dk_at dksX53_init_6 2 rfl rfl)
theorem dX53_init_147 : decode cX53_init 147 = .ok (.aload_n 0, 1) := dk_42 (dk_at dksX53_init_6 5 rfl rfl)
theorem dX53_init_148 : decode cX53_init 148 = .ok (.sipush 15625, 3) := dk_17 61 9 (dk_at dksX53_init_6 6 rfl rfl)
theorem dX53_init_151 : decode cX53_init 151 = .ok (.newarray .int, 2) := dk_188_10 (dk_at dksX53_init_6 9 rfl rfl)
theorem dX53_init_153 : decode cX53_init 153 = .ok (.putfield 66, 3) := dk_181 0 66 (dk_at dksX53_init_6 11 rfl rfl)
theorem dX53_init_156 : decode cX53_init 156 = .ok (.aload_n 0, 1) := dk_42 (dk_at dksX53_init_6 14 rfl rfl)
theorem dX53_init_157 : decode cX53_init 157 = .ok (.iconst (-1), 1) := dk_2 (dk_at dksX53_init_6 15 rfl rfl)
theorem dX53_init_158 : decode cX53_init 158 = .ok (.putfield 69, 3) := dk_181 0 69 (dk_at dksX53_init_6 16 rfl rfl)
theorem dX53_init_161 : decode cX53_init 161 = .ok (.aload_n 0, 1) := dk_42 (dk_at dksX53_init_6 19 rfl rfl)
theorem dX53_init_162 : decode cX53_init 162 = .ok (.bipush 7, 2) := dk_16 7 (dk_at dksX53_init_6 20 rfl rfl)
theorem dX53_init_164 : decode cX53_init 164 = .ok (.newarray .int, 2) := dk_188_10 (dk_at dksX53_init_6 22 rfl rfl)
theorem dX53_init_166 : decode cX53_init 166 = .ok (.putfield 73, 3) := dk_181 0 73 (dk_at dksX53_init_7 0 rfl rfl)
theorem dX53_init_169 : decode cX53_init 169 = .ok (.iconst 0, 1) := dk_3 (dk_at dksX53_init_7 3 rfl rfl)
theorem dX53_init_170 : decode cX53_init 170 = .ok (.istore_n 1, 1) := dk_60 (dk_at dksX53_init_7 4 rfl rfl)
theorem dX53_init_171 : decode cX53_init 171 = .ok (.iload_n 1, 1) := dk_27 (dk_at dksX53_init_7 5 rfl rfl)
theorem dX53_init_172 : decode cX53_init 172 = .ok (.bipush 6, 2) := dk_16 6 (dk_at dksX53_init_7 6 rfl rfl)
theorem dX53_init_174 : decode cX53_init 174 = .ok (.if_icmp .ge 18, 3) := dk_162 0 18 (dk_at dksX53_init_7 8 rfl rfl)
theorem dX53_init_177 : decode cX53_init 177 = .ok (.aload_n 0, 1) := dk_42 (dk_at dksX53_init_7 11 rfl rfl)
theorem dX53_init_178 : decode cX53_init 178 = .ok (.getfield 42, 3) := dk_180 0 42 (dk_at dksX53_init_7 12 rfl rfl)
theorem dX53_init_181 : decode cX53_init 181 = .ok (.iload_n 1, 1) := dk_27 (dk_at dksX53_init_7 15 rfl rfl)
theorem dX53_init_182 : decode cX53_init 182 = .ok (.ldc2_w 76, 3) := dk_20 0 76 (dk_at dksX53_init_7 16 rfl rfl)
theorem dX53_init_185 : decode cX53_init 185 = .ok (.lastore, 1) := dk_80 (dk_at dksX53_init_7 19 rfl rfl)
theorem dX53_init_186 : decode cX53_init 186 = .ok (.iinc 1 1, 3) := dk_132 1 1 (dk_at dksX53_init_7 20 rfl rfl)
theorem dX53_init_189 : decode cX53_init 189 = .ok (.goto (-18), 3) := dk_167 255 238 (dk_at dksX53_init_8 0 rfl rfl)
theorem dX53_init_192 : decode cX53_init 192 = .ok (.iconst 0, 1) := dk_3 (dk_at dksX53_init_8 3 rfl rfl)
theorem dX53_init_193 : decode cX53_init 193 = .ok (.istore_n 1, 1) := dk_60 (dk_at dksX53_init_8 4 rfl rfl)
theorem dX53_init_194 : decode cX53_init 194 = .ok (.iload_n 1, 1) := dk_27 (dk_at dksX53_init_8 5 rfl rfl)
theorem dX53_init_195 : decode cX53_init 195 = .ok (.iconst 4, 1) := dk_7 (dk_at dksX53_init_8 6 rfl rfl)
theorem dX53_init_196 : decode cX53_init 196 = .ok (.if_icmp .ge 16, 3) := dk_162 0 16 (dk_at dksX53_init_8 7 rfl rfl)
theorem dX53_init_199 : decode cX53_init 199 = .ok (.aload_n 0, 1) := dk_42 (dk_at dksX53_init_8 10 rfl rfl)
theorem dX53_init_200 : decode cX53_init 200 = .ok (.getfield 51, 3) := dk_180 0 51 (dk_at dksX53_init_8 11 rfl rfl)
theorem dX53_init_203 : decode cX53_init 203 = .ok (.iload_n 1, 1) := dk_27 (dk_at dksX53_init_8 14 rfl rfl)
theorem dX53_init_204 : decode cX53_init 204 = .ok (.iconst (-1), 1) := dk_2 (dk_at dksX53_init_8 15 rfl rfl)
theorem dX53_init_205 : decode cX53_init 205 = .ok (.iastore, 1) := dk_79 (dk_at dksX53_init_8 16 rfl rfl)
theorem dX53_init_206 : decode cX53_init 206 = .ok (.iinc 1 1, 3) := dk_132 1 1 (dk_at dksX53_init_8 17 rfl rfl)
theorem dX53_init_209 : decode cX53_init 209 = .ok (.goto (-15), 3) := dk_167 255 241 (dk_at dksX53_init_8 20 rfl rfl)
theorem dX53_init_212 : decode cX53_init 212 = .ok (.iconst 0, 1) := dk_3 (dk_at dksX53_init_8 23 rfl rfl)
theorem dX53_init_213 : decode cX53_init 213 = .ok (.istore_n 1, 1) := dk_60 (dk_at dksX53_init_9 0 rfl rfl)
theorem dX53_init_214 : decode cX53_init 214 = .ok (.iload_n 1, 1) := dk_27 (dk_at dksX53_init_9 1 rfl rfl)
theorem dX53_init_215 : decode cX53_init 215 = .ok (.bipush 6, 2) := dk_16 6 (dk_at dksX53_init_9 2 rfl rfl)
theorem dX53_init_217 : decode cX53_init 217 = .ok (.if_icmp .ge 16, 3) := dk_162 0 16 (dk_at dksX53_init_9 4 rfl rfl)
theorem dX53_init_220 : decode cX53_init 220 = .ok (.aload_n 0, 1) := dk_42 (dk_at dksX53_init_9 7 rfl rfl)
theorem dX53_init_221 : decode cX53_init 221 = .ok (.getfield 33, 3) := dk_180 0 33 (dk_at dksX53_init_9 8 rfl rfl)
theorem dX53_init_224 : decode cX53_init 224 = .ok (.iload_n 1, 1) := dk_27 (dk_at dksX53_init_9 11 rfl rfl)
theorem dX53_init_225 : decode cX53_init 225 = .ok (.iconst (-1), 1) := dk_2 (dk_at dksX53_init_9 12 rfl rfl)
theorem dX53_init_226 : decode cX53_init 226 = .ok (.iastore, 1) := dk_79 (dk_at dksX53_init_9 13 rfl rfl)
theorem dX53_init_227 : decode cX53_init 227 = .ok (.iinc 1 1, 3) := dk_132 1 1 (dk_at dksX53_init_9 14 rfl rfl)
theorem dX53_init_230 : decode cX53_init 230 = .ok (.goto (-16), 3) := dk_167 255 240 (dk_at dksX53_init_9 17 rfl rfl)
theorem dX53_init_233 : decode cX53_init 233 = .ok (.aload_n 0, 1) := dk_42 (dk_at dksX53_init_9 20 rfl rfl)
theorem dX53_init_234 : decode cX53_init 234 = .ok (.getfield 73, 3) := dk_180 0 73 (dk_at dksX53_init_9 21 rfl rfl)
theorem dX53_init_237 : decode cX53_init 237 = .ok (.iconst 0, 1) := dk_3 (dk_at dksX53_init_10 0 rfl rfl)
theorem dX53_init_238 : decode cX53_init 238 = .ok (.iconst 1, 1) := dk_4 (dk_at dksX53_init_10 1 rfl rfl)
theorem dX53_init_239 : decode cX53_init 239 = .ok (.iastore, 1) := dk_79 (dk_at dksX53_init_10 2 rfl rfl)
theorem dX53_init_240 : decode cX53_init 240 = .ok (.iconst 1, 1) := dk_4 (dk_at dksX53_init_10 3 rfl rfl)
theorem dX53_init_241 : decode cX53_init 241 = .ok (.istore_n 1, 1) := dk_60 (dk_at dksX53_init_10 4 rfl rfl)
theorem dX53_init_242 : decode cX53_init 242 = .ok (.iload_n 1, 1) := dk_27 (dk_at dksX53_init_10 5 rfl rfl)
theorem dX53_init_243 : decode cX53_init 243 = .ok (.bipush 6, 2) := dk_16 6 (dk_at dksX53_init_10 6 rfl rfl)
theorem dX53_init_245 : decode cX53_init 245 = .ok (.if_icmp .gt 25, 3) := dk_163 0 25 (dk_at dksX53_init_10 8 rfl rfl)
theorem dX53_init_248 : decode cX53_init 248 = .ok (.aload_n 0, 1) := dk_42 (dk_at dksX53_init_10 11 rfl rfl)
theorem dX53_init_249 : decode cX53_init 249 = .ok (.getfield 73, 3) := dk_180 0 73 (dk_at dksX53_init_10 12 rfl rfl)
theorem dX53_init_252 : decode cX53_init 252 = .ok (.iload_n 1, 1) := dk_27 (dk_at dksX53_init_10 15 rfl rfl)
theorem dX53_init_253 : decode cX53_init 253 = .ok (.iconst 5, 1) := dk_8 (dk_at dksX53_init_10 16 rfl rfl)
theorem dX53_init_254 : decode cX53_init 254 = .ok (.aload_n 0, 1) := dk_42 (dk_at dksX53_init_10 17 rfl rfl)
theorem dX53_init_255 : decode cX53_init 255 = .ok (.getfield 73, 3) := dk_180 0 73 (dk_at dksX53_init_10 18 rfl rfl)
theorem dX53_init_258 : decode cX53_init 258 = .ok (.iload_n 1, 1) := dk_27 (dk_at dksX53_init_10 21 rfl rfl)
theorem dX53_init_259 : decode cX53_init 259 = .ok (.iconst 1, 1) := dk_4 (dk_at dksX53_init_10 22 rfl rfl)
theorem dX53_init_260 : decode cX53_init 260 = .ok (.isub, 1) := dk_100 (dk_at dksX53_init_10 23 rfl rfl)
theorem dX53_init_261 : decode cX53_init 261 = .ok (.iaload, 1) := dk_46 (dk_at dksX53_init_11 0 rfl rfl)
theorem dX53_init_262 : decode cX53_init 262 = .ok (.imul, 1) := dk_104 (dk_at dksX53_init_11 1 rfl rfl)
theorem dX53_init_263 : decode cX53_init 263 = .ok (.iastore, 1) := dk_79 (dk_at dksX53_init_11 2 rfl rfl)
theorem dX53_init_264 : decode cX53_init 264 = .ok (.iinc 1 1, 3) := dk_132 1 1 (dk_at dksX53_init_11 3 rfl rfl)
theorem dX53_init_267 : decode cX53_init 267 = .ok (.goto (-25), 3) := dk_167 255 231 (dk_at dksX53_init_11 6 rfl rfl)
theorem dX53_init_270 : decode cX53_init 270 = .ok (.return_, 1) := dk_177 (dk_at dksX53_init_11 9 rfl rfl)
abbrev cX53_load : ByteArray := prog_58_method_10_code
def yX53_load : MethodName := ⟨RX53, "load", "(IJJ)I"⟩
def dkwX53_load_3 : List UInt8 := [22, 4, 80, 42, 89, 180, 0, 81, 4, 96, 181, 0, 81, 42, 180, 0, 81, 4, 100, 172]
abbrev dktX53_load_3 : List UInt8 := dkwX53_load_3 ++ []
def dkwX53_load_2 : List UInt8 := [180, 0, 81, 27, 79, 42, 180, 0, 22, 42, 180, 0, 81, 32, 80, 42, 180, 0, 26, 42, 180, 0, 81]
abbrev dktX53_load_2 : List UInt8 := dkwX53_load_2 ++ dktX53_load_3
def dkwX53_load_1 : List UInt8 := [153, 0, 15, 22, 4, 9, 20, 0, 102, 184, 0, 90, 154, 0, 5, 2, 172, 42, 180, 0, 19, 42]
abbrev dktX53_load_1 : List UInt8 := dkwX53_load_1 ++ dktX53_load_2
def dkwX53_load_0 : List UInt8 := [42, 180, 0, 81, 16, 6, 159, 0, 33, 27, 184, 0, 84, 153, 0, 26, 32, 9, 20, 0, 100, 184, 0, 90]
abbrev dktX53_load_0 : List UInt8 := dkwX53_load_0 ++ dktX53_load_1
theorem dksX53_load_0 : cX53_load.data.toList.drop 0 = dktX53_load_0 := by decide +kernel
theorem dksX53_load_1 : cX53_load.data.toList.drop 24 = dktX53_load_1 := dk_seg dksX53_load_0 24 rfl rfl
theorem dksX53_load_2 : cX53_load.data.toList.drop 46 = dktX53_load_2 := dk_seg dksX53_load_1 22 rfl rfl
theorem dksX53_load_3 : cX53_load.data.toList.drop 69 = dktX53_load_3 := dk_seg dksX53_load_2 23 rfl rfl
theorem dX53_load_0 : decode cX53_load 0 = .ok (.aload_n 0, 1) := dk_42 (dk_at dksX53_load_0 0 rfl rfl)
theorem dX53_load_1 : decode cX53_load 1 = .ok (.getfield 81, 3) := dk_180 0 81 (dk_at dksX53_load_0 1 rfl rfl)
theorem dX53_load_4 : decode cX53_load 4 = .ok (.bipush 6, 2) := dk_16 6 (dk_at dksX53_load_0 4 rfl rfl)
theorem dX53_load_6 : decode cX53_load 6 = .ok (.if_icmp .eq 33, 3) := dk_159 0 33 (dk_at dksX53_load_0 6 rfl rfl)
theorem dX53_load_9 : decode cX53_load 9 = .ok (.iload_n 1, 1) := dk_27 (dk_at dksX53_load_0 9 rfl rfl)
theorem dX53_load_10 : decode cX53_load 10 = .ok (.invokestatic 84, 3) := dk_184 0 84 (dk_at dksX53_load_0 10 rfl rfl)
theorem dX53_load_13 : decode cX53_load 13 = .ok (.ifCond .eq 26, 3) := dk_153 0 26 (dk_at dksX53_load_0 13 rfl rfl)
theorem dX53_load_16 : decode cX53_load 16 = .ok (.lload_n 2, 1) := dk_32 (dk_at dksX53_load_0 16 rfl rfl)
theorem dX53_load_17 : decode cX53_load 17 = .ok (.lconst 0, 1) := dk_9 (dk_at dksX53_load_0 17 rfl rfl)
theorem dX53_load_18 : decode cX53_load 18 = .ok (.ldc2_w 100, 3) := dk_20 0 100 (dk_at dksX53_load_0 18 rfl rfl)
theorem dX53_load_21 : decode cX53_load 21 = .ok (.invokestatic 90, 3) := dk_184 0 90 (dk_at dksX53_load_0 21 rfl rfl)
theorem dX53_load_24 : decode cX53_load 24 = .ok (.ifCond .eq 15, 3) := dk_153 0 15 (dk_at dksX53_load_1 0 rfl rfl)
theorem dX53_load_27 : decode cX53_load 27 = .ok (.lload 4, 2) := dk_22 4 (dk_at dksX53_load_1 3 rfl rfl)
theorem dX53_load_29 : decode cX53_load 29 = .ok (.lconst 0, 1) := dk_9 (dk_at dksX53_load_1 5 rfl rfl)
theorem dX53_load_30 : decode cX53_load 30 = .ok (.ldc2_w 102, 3) := dk_20 0 102 (dk_at dksX53_load_1 6 rfl rfl)
theorem dX53_load_33 : decode cX53_load 33 = .ok (.invokestatic 90, 3) := dk_184 0 90 (dk_at dksX53_load_1 9 rfl rfl)
theorem dX53_load_36 : decode cX53_load 36 = .ok (.ifCond .ne 5, 3) := dk_154 0 5 (dk_at dksX53_load_1 12 rfl rfl)
theorem dX53_load_39 : decode cX53_load 39 = .ok (.iconst (-1), 1) := dk_2 (dk_at dksX53_load_1 15 rfl rfl)
theorem dX53_load_40 : decode cX53_load 40 = .ok (.ireturn, 1) := dk_172 (dk_at dksX53_load_1 16 rfl rfl)
theorem dX53_load_41 : decode cX53_load 41 = .ok (.aload_n 0, 1) := dk_42 (dk_at dksX53_load_1 17 rfl rfl)
theorem dX53_load_42 : decode cX53_load 42 = .ok (.getfield 19, 3) := dk_180 0 19 (dk_at dksX53_load_1 18 rfl rfl)
theorem dX53_load_45 : decode cX53_load 45 = .ok (.aload_n 0, 1) := dk_42 (dk_at dksX53_load_1 21 rfl rfl)
theorem dX53_load_46 : decode cX53_load 46 = .ok (.getfield 81, 3) := dk_180 0 81 (dk_at dksX53_load_2 0 rfl rfl)
theorem dX53_load_49 : decode cX53_load 49 = .ok (.iload_n 1, 1) := dk_27 (dk_at dksX53_load_2 3 rfl rfl)
theorem dX53_load_50 : decode cX53_load 50 = .ok (.iastore, 1) := dk_79 (dk_at dksX53_load_2 4 rfl rfl)
theorem dX53_load_51 : decode cX53_load 51 = .ok (.aload_n 0, 1) := dk_42 (dk_at dksX53_load_2 5 rfl rfl)
theorem dX53_load_52 : decode cX53_load 52 = .ok (.getfield 22, 3) := dk_180 0 22 (dk_at dksX53_load_2 6 rfl rfl)
theorem dX53_load_55 : decode cX53_load 55 = .ok (.aload_n 0, 1) := dk_42 (dk_at dksX53_load_2 9 rfl rfl)
theorem dX53_load_56 : decode cX53_load 56 = .ok (.getfield 81, 3) := dk_180 0 81 (dk_at dksX53_load_2 10 rfl rfl)
theorem dX53_load_59 : decode cX53_load 59 = .ok (.lload_n 2, 1) := dk_32 (dk_at dksX53_load_2 13 rfl rfl)
theorem dX53_load_60 : decode cX53_load 60 = .ok (.lastore, 1) := dk_80 (dk_at dksX53_load_2 14 rfl rfl)
theorem dX53_load_61 : decode cX53_load 61 = .ok (.aload_n 0, 1) := dk_42 (dk_at dksX53_load_2 15 rfl rfl)
theorem dX53_load_62 : decode cX53_load 62 = .ok (.getfield 26, 3) := dk_180 0 26 (dk_at dksX53_load_2 16 rfl rfl)
theorem dX53_load_65 : decode cX53_load 65 = .ok (.aload_n 0, 1) := dk_42 (dk_at dksX53_load_2 19 rfl rfl)
theorem dX53_load_66 : decode cX53_load 66 = .ok (.getfield 81, 3) := dk_180 0 81 (dk_at dksX53_load_2 20 rfl rfl)
theorem dX53_load_69 : decode cX53_load 69 = .ok (.lload 4, 2) := dk_22 4 (dk_at dksX53_load_3 0 rfl rfl)
theorem dX53_load_71 : decode cX53_load 71 = .ok (.lastore, 1) := dk_80 (dk_at dksX53_load_3 2 rfl rfl)
theorem dX53_load_72 : decode cX53_load 72 = .ok (.aload_n 0, 1) := dk_42 (dk_at dksX53_load_3 3 rfl rfl)
theorem dX53_load_73 : decode cX53_load 73 = .ok (.dup, 1) := dk_89 (dk_at dksX53_load_3 4 rfl rfl)
theorem dX53_load_74 : decode cX53_load 74 = .ok (.getfield 81, 3) := dk_180 0 81 (dk_at dksX53_load_3 5 rfl rfl)
theorem dX53_load_77 : decode cX53_load 77 = .ok (.iconst 1, 1) := dk_4 (dk_at dksX53_load_3 8 rfl rfl)
theorem dX53_load_78 : decode cX53_load 78 = .ok (.iadd, 1) := dk_96 (dk_at dksX53_load_3 9 rfl rfl)
theorem dX53_load_79 : decode cX53_load 79 = .ok (.putfield 81, 3) := dk_181 0 81 (dk_at dksX53_load_3 10 rfl rfl)
theorem dX53_load_82 : decode cX53_load 82 = .ok (.aload_n 0, 1) := dk_42 (dk_at dksX53_load_3 13 rfl rfl)
theorem dX53_load_83 : decode cX53_load 83 = .ok (.getfield 81, 3) := dk_180 0 81 (dk_at dksX53_load_3 14 rfl rfl)
theorem dX53_load_86 : decode cX53_load 86 = .ok (.iconst 1, 1) := dk_4 (dk_at dksX53_load_3 17 rfl rfl)
theorem dX53_load_87 : decode cX53_load 87 = .ok (.isub, 1) := dk_100 (dk_at dksX53_load_3 18 rfl rfl)
theorem dX53_load_88 : decode cX53_load 88 = .ok (.ireturn, 1) := dk_172 (dk_at dksX53_load_3 19 rfl rfl)
abbrev cX53_isClass : ByteArray := prog_58_method_4_code
def yX53_isClass : MethodName := ⟨RX53, "isClass", "(I)Z"⟩
def dkwX53_isClass_0 : List UInt8 := [26, 155, 0, 13, 26, 16, 6, 162, 0, 7, 4, 167, 0, 4, 3, 172]
abbrev dktX53_isClass_0 : List UInt8 := dkwX53_isClass_0 ++ []
theorem dksX53_isClass_0 : cX53_isClass.data.toList.drop 0 = dktX53_isClass_0 := by decide +kernel
theorem dX53_isClass_0 : decode cX53_isClass 0 = .ok (.iload_n 0, 1) := dk_26 (dk_at dksX53_isClass_0 0 rfl rfl)
theorem dX53_isClass_1 : decode cX53_isClass 1 = .ok (.ifCond .lt 13, 3) := dk_155 0 13 (dk_at dksX53_isClass_0 1 rfl rfl)
theorem dX53_isClass_4 : decode cX53_isClass 4 = .ok (.iload_n 0, 1) := dk_26 (dk_at dksX53_isClass_0 4 rfl rfl)
theorem dX53_isClass_5 : decode cX53_isClass 5 = .ok (.bipush 6, 2) := dk_16 6 (dk_at dksX53_isClass_0 5 rfl rfl)
theorem dX53_isClass_7 : decode cX53_isClass 7 = .ok (.if_icmp .ge 7, 3) := dk_162 0 7 (dk_at dksX53_isClass_0 7 rfl rfl)
theorem dX53_isClass_10 : decode cX53_isClass 10 = .ok (.iconst 1, 1) := dk_4 (dk_at dksX53_isClass_0 10 rfl rfl)
theorem dX53_isClass_11 : decode cX53_isClass 11 = .ok (.goto 4, 3) := dk_167 0 4 (dk_at dksX53_isClass_0 11 rfl rfl)
theorem dX53_isClass_14 : decode cX53_isClass 14 = .ok (.iconst 0, 1) := dk_3 (dk_at dksX53_isClass_0 14 rfl rfl)
theorem dX53_isClass_15 : decode cX53_isClass 15 = .ok (.ireturn, 1) := dk_172 (dk_at dksX53_isClass_0 15 rfl rfl)
abbrev cX53_isIn : ByteArray := prog_58_method_3_code
def yX53_isIn : MethodName := ⟨RX53, "isIn", "(JJJ)Z"⟩
def dkwX53_isIn_0 : List UInt8 := [30, 32, 148, 155, 0, 14, 30, 22, 4, 148, 157, 0, 7, 4, 167, 0, 4, 3, 172]
abbrev dktX53_isIn_0 : List UInt8 := dkwX53_isIn_0 ++ []
theorem dksX53_isIn_0 : cX53_isIn.data.toList.drop 0 = dktX53_isIn_0 := by decide +kernel
theorem dX53_isIn_0 : decode cX53_isIn 0 = .ok (.lload_n 0, 1) := dk_30 (dk_at dksX53_isIn_0 0 rfl rfl)
theorem dX53_isIn_1 : decode cX53_isIn 1 = .ok (.lload_n 2, 1) := dk_32 (dk_at dksX53_isIn_0 1 rfl rfl)
theorem dX53_isIn_2 : decode cX53_isIn 2 = .ok (.lcmp, 1) := dk_148 (dk_at dksX53_isIn_0 2 rfl rfl)
theorem dX53_isIn_3 : decode cX53_isIn 3 = .ok (.ifCond .lt 14, 3) := dk_155 0 14 (dk_at dksX53_isIn_0 3 rfl rfl)
theorem dX53_isIn_6 : decode cX53_isIn 6 = .ok (.lload_n 0, 1) := dk_30 (dk_at dksX53_isIn_0 6 rfl rfl)
theorem dX53_isIn_7 : decode cX53_isIn 7 = .ok (.lload 4, 2) := dk_22 4 (dk_at dksX53_isIn_0 7 rfl rfl)
theorem dX53_isIn_9 : decode cX53_isIn 9 = .ok (.lcmp, 1) := dk_148 (dk_at dksX53_isIn_0 9 rfl rfl)
theorem dX53_isIn_10 : decode cX53_isIn 10 = .ok (.ifCond .gt 7, 3) := dk_157 0 7 (dk_at dksX53_isIn_0 10 rfl rfl)
theorem dX53_isIn_13 : decode cX53_isIn 13 = .ok (.iconst 1, 1) := dk_4 (dk_at dksX53_isIn_0 13 rfl rfl)
theorem dX53_isIn_14 : decode cX53_isIn 14 = .ok (.goto 4, 3) := dk_167 0 4 (dk_at dksX53_isIn_0 14 rfl rfl)
theorem dX53_isIn_17 : decode cX53_isIn 17 = .ok (.iconst 0, 1) := dk_3 (dk_at dksX53_isIn_0 17 rfl rfl)
theorem dX53_isIn_18 : decode cX53_isIn 18 = .ok (.ireturn, 1) := dk_172 (dk_at dksX53_isIn_0 18 rfl rfl)
abbrev cX53_put : ByteArray := prog_58_method_19_code
def yX53_put : MethodName := ⟨RX53, "put", "(II)I"⟩
def dkwX53_put_7 : List UInt8 := [28, 46, 133, 148, 158, 0, 8, 16, 101, 167, 0, 5, 16, 102, 172]
abbrev dktX53_put_7 : List UInt8 := dkwX53_put_7 ++ []
def dkwX53_put_6 : List UInt8 := [182, 0, 116, 153, 0, 8, 16, 100, 167, 0, 30, 42, 42, 180, 0, 60, 28, 182, 0, 120, 42, 180, 0, 16]
abbrev dktX53_put_6 : List UInt8 := dkwX53_put_6 ++ dktX53_put_7
def dkwX53_put_5 : List UInt8 := [153, 0, 7, 4, 29, 96, 172, 132, 3, 1, 167, 255, 223, 42, 42, 180, 0, 60, 42, 180, 0, 19, 27, 46]
abbrev dktX53_put_5 : List UInt8 := dkwX53_put_5 ++ dktX53_put_6
def dkwX53_put_4 : List UInt8 := [29, 42, 180, 0, 81, 162, 0, 31, 29, 27, 159, 0, 20, 42, 42, 180, 0, 60, 27, 29, 182, 0, 112]
abbrev dktX53_put_4 : List UInt8 := dkwX53_put_4 ++ dktX53_put_5
def dkwX53_put_3 : List UInt8 := [159, 0, 14, 42, 42, 180, 0, 60, 182, 0, 124, 153, 0, 11, 42, 27, 28, 182, 0, 139, 3, 172, 3, 62]
abbrev dktX53_put_3 : List UInt8 := dkwX53_put_3 ++ dktX53_put_4
def dkwX53_put_2 : List UInt8 := [160, 0, 7, 28, 167, 0, 9, 42, 180, 0, 33, 29, 46, 79, 132, 3, 1, 167, 255, 226, 28, 2]
abbrev dktX53_put_2 : List UInt8 := dkwX53_put_2 ++ dktX53_put_3
def dkwX53_put_1 : List UInt8 := [182, 0, 128, 154, 0, 5, 2, 172, 3, 62, 29, 16, 6, 162, 0, 30, 42, 180, 0, 60, 29, 29, 27]
abbrev dktX53_put_1 : List UInt8 := dkwX53_put_1 ++ dktX53_put_2
def dkwX53_put_0 : List UInt8 := [42, 27, 182, 0, 136, 153, 0, 25, 42, 180, 0, 29, 27, 51, 154, 0, 16, 28, 2, 159, 0, 13, 42, 28]
abbrev dktX53_put_0 : List UInt8 := dkwX53_put_0 ++ dktX53_put_1
theorem dksX53_put_0 : cX53_put.data.toList.drop 0 = dktX53_put_0 := by decide +kernel
theorem dksX53_put_1 : cX53_put.data.toList.drop 24 = dktX53_put_1 := dk_seg dksX53_put_0 24 rfl rfl
theorem dksX53_put_2 : cX53_put.data.toList.drop 47 = dktX53_put_2 := dk_seg dksX53_put_1 23 rfl rfl
theorem dksX53_put_3 : cX53_put.data.toList.drop 69 = dktX53_put_3 := dk_seg dksX53_put_2 22 rfl rfl
theorem dksX53_put_4 : cX53_put.data.toList.drop 93 = dktX53_put_4 := dk_seg dksX53_put_3 24 rfl rfl
theorem dksX53_put_5 : cX53_put.data.toList.drop 116 = dktX53_put_5 := dk_seg dksX53_put_4 23 rfl rfl
theorem dksX53_put_6 : cX53_put.data.toList.drop 140 = dktX53_put_6 := dk_seg dksX53_put_5 24 rfl rfl
theorem dksX53_put_7 : cX53_put.data.toList.drop 164 = dktX53_put_7 := dk_seg dksX53_put_6 24 rfl rfl
theorem dX53_put_0 : decode cX53_put 0 = .ok (.aload_n 0, 1) := dk_42 (dk_at dksX53_put_0 0 rfl rfl)
theorem dX53_put_1 : decode cX53_put 1 = .ok (.iload_n 1, 1) := dk_27 (dk_at dksX53_put_0 1 rfl rfl)
theorem dX53_put_2 : decode cX53_put 2 = .ok (.invokevirtual 136, 3) := dk_182 0 136 (dk_at dksX53_put_0 2 rfl rfl)
theorem dX53_put_5 : decode cX53_put 5 = .ok (.ifCond .eq 25, 3) := dk_153 0 25 (dk_at dksX53_put_0 5 rfl rfl)
theorem dX53_put_8 : decode cX53_put 8 = .ok (.aload_n 0, 1) := dk_42 (dk_at dksX53_put_0 8 rfl rfl)
theorem dX53_put_9 : decode cX53_put 9 = .ok (.getfield 29, 3) := dk_180 0 29 (dk_at dksX53_put_0 9 rfl rfl)
theorem dX53_put_12 : decode cX53_put 12 = .ok (.iload_n 1, 1) := dk_27 (dk_at dksX53_put_0 12 rfl rfl)
theorem dX53_put_13 : decode cX53_put 13 = .ok (.baload, 1) := dk_51 (dk_at dksX53_put_0 13 rfl rfl)
theorem dX53_put_14 : decode cX53_put 14 = .ok (.ifCond .ne 16, 3) := dk_154 0 16 (dk_at dksX53_put_0 14 rfl rfl)
theorem dX53_put_17 : decode cX53_put 17 = .ok (.iload_n 2, 1) := dk_28 (dk_at dksX53_put_0 17 rfl rfl)
theorem dX53_put_18 : decode cX53_put 18 = .ok (.iconst (-1), 1) := dk_2 (dk_at dksX53_put_0 18 rfl rfl)
theorem dX53_put_19 : decode cX53_put 19 = .ok (.if_icmp .eq 13, 3) := dk_159 0 13 (dk_at dksX53_put_0 19 rfl rfl)
theorem dX53_put_22 : decode cX53_put 22 = .ok (.aload_n 0, 1) := dk_42 (dk_at dksX53_put_0 22 rfl rfl)
theorem dX53_put_23 : decode cX53_put 23 = .ok (.iload_n 2, 1) := dk_28 (dk_at dksX53_put_0 23 rfl rfl)
theorem dX53_put_24 : decode cX53_put 24 = .ok (.invokevirtual 128, 3) := dk_182 0 128 (dk_at dksX53_put_1 0 rfl rfl)
theorem dX53_put_27 : decode cX53_put 27 = .ok (.ifCond .ne 5, 3) := dk_154 0 5 (dk_at dksX53_put_1 3 rfl rfl)
theorem dX53_put_30 : decode cX53_put 30 = .ok (.iconst (-1), 1) := dk_2 (dk_at dksX53_put_1 6 rfl rfl)
theorem dX53_put_31 : decode cX53_put 31 = .ok (.ireturn, 1) := dk_172 (dk_at dksX53_put_1 7 rfl rfl)
theorem dX53_put_32 : decode cX53_put 32 = .ok (.iconst 0, 1) := dk_3 (dk_at dksX53_put_1 8 rfl rfl)
theorem dX53_put_33 : decode cX53_put 33 = .ok (.istore_n 3, 1) := dk_62 (dk_at dksX53_put_1 9 rfl rfl)
theorem dX53_put_34 : decode cX53_put 34 = .ok (.iload_n 3, 1) := dk_29 (dk_at dksX53_put_1 10 rfl rfl)
theorem dX53_put_35 : decode cX53_put 35 = .ok (.bipush 6, 2) := dk_16 6 (dk_at dksX53_put_1 11 rfl rfl)
theorem dX53_put_37 : decode cX53_put 37 = .ok (.if_icmp .ge 30, 3) := dk_162 0 30 (dk_at dksX53_put_1 13 rfl rfl)
theorem dX53_put_40 : decode cX53_put 40 = .ok (.aload_n 0, 1) := dk_42 (dk_at dksX53_put_1 16 rfl rfl)
theorem dX53_put_41 : decode cX53_put 41 = .ok (.getfield 60, 3) := dk_180 0 60 (dk_at dksX53_put_1 17 rfl rfl)
theorem dX53_put_44 : decode cX53_put 44 = .ok (.iload_n 3, 1) := dk_29 (dk_at dksX53_put_1 20 rfl rfl)
theorem dX53_put_45 : decode cX53_put 45 = .ok (.iload_n 3, 1) := dk_29 (dk_at dksX53_put_1 21 rfl rfl)
theorem dX53_put_46 : decode cX53_put 46 = .ok (.iload_n 1, 1) := dk_27 (dk_at dksX53_put_1 22 rfl rfl)
theorem dX53_put_47 : decode cX53_put 47 = .ok (.if_icmp .ne 7, 3) := dk_160 0 7 (dk_at dksX53_put_2 0 rfl rfl)
theorem dX53_put_50 : decode cX53_put 50 = .ok (.iload_n 2, 1) := dk_28 (dk_at dksX53_put_2 3 rfl rfl)
theorem dX53_put_51 : decode cX53_put 51 = .ok (.goto 9, 3) := dk_167 0 9 (dk_at dksX53_put_2 4 rfl rfl)
theorem dX53_put_54 : decode cX53_put 54 = .ok (.aload_n 0, 1) := dk_42 (dk_at dksX53_put_2 7 rfl rfl)
theorem dX53_put_55 : decode cX53_put 55 = .ok (.getfield 33, 3) := dk_180 0 33 (dk_at dksX53_put_2 8 rfl rfl)
theorem dX53_put_58 : decode cX53_put 58 = .ok (.iload_n 3, 1) := dk_29 (dk_at dksX53_put_2 11 rfl rfl)
theorem dX53_put_59 : decode cX53_put 59 = .ok (.iaload, 1) := dk_46 (dk_at dksX53_put_2 12 rfl rfl)
theorem dX53_put_60 : decode cX53_put 60 = .ok (.iastore, 1) := dk_79 (dk_at dksX53_put_2 13 rfl rfl)
theorem dX53_put_61 : decode cX53_put 61 = .ok (.iinc 3 1, 3) := dk_132 3 1 (dk_at dksX53_put_2 14 rfl rfl)
theorem dX53_put_64 : decode cX53_put 64 = .ok (.goto (-30), 3) := dk_167 255 226 (dk_at dksX53_put_2 17 rfl rfl)
theorem dX53_put_67 : decode cX53_put 67 = .ok (.iload_n 2, 1) := dk_28 (dk_at dksX53_put_2 20 rfl rfl)
theorem dX53_put_68 : decode cX53_put 68 = .ok (.iconst (-1), 1) := dk_2 (dk_at dksX53_put_2 21 rfl rfl)
theorem dX53_put_69 : decode cX53_put 69 = .ok (.if_icmp .eq 14, 3) := dk_159 0 14 (dk_at dksX53_put_3 0 rfl rfl)
theorem dX53_put_72 : decode cX53_put 72 = .ok (.aload_n 0, 1) := dk_42 (dk_at dksX53_put_3 3 rfl rfl)
theorem dX53_put_73 : decode cX53_put 73 = .ok (.aload_n 0, 1) := dk_42 (dk_at dksX53_put_3 4 rfl rfl)
theorem dX53_put_74 : decode cX53_put 74 = .ok (.getfield 60, 3) := dk_180 0 60 (dk_at dksX53_put_3 5 rfl rfl)
theorem dX53_put_77 : decode cX53_put 77 = .ok (.invokevirtual 124, 3) := dk_182 0 124 (dk_at dksX53_put_3 8 rfl rfl)
theorem dX53_put_80 : decode cX53_put 80 = .ok (.ifCond .eq 11, 3) := dk_153 0 11 (dk_at dksX53_put_3 11 rfl rfl)
theorem dX53_put_83 : decode cX53_put 83 = .ok (.aload_n 0, 1) := dk_42 (dk_at dksX53_put_3 14 rfl rfl)
theorem dX53_put_84 : decode cX53_put 84 = .ok (.iload_n 1, 1) := dk_27 (dk_at dksX53_put_3 15 rfl rfl)
theorem dX53_put_85 : decode cX53_put 85 = .ok (.iload_n 2, 1) := dk_28 (dk_at dksX53_put_3 16 rfl rfl)
theorem dX53_put_86 : decode cX53_put 86 = .ok (.invokevirtual 139, 3) := dk_182 0 139 (dk_at dksX53_put_3 17 rfl rfl)
theorem dX53_put_89 : decode cX53_put 89 = .ok (.iconst 0, 1) := dk_3 (dk_at dksX53_put_3 20 rfl rfl)
theorem dX53_put_90 : decode cX53_put 90 = .ok (.ireturn, 1) := dk_172 (dk_at dksX53_put_3 21 rfl rfl)
theorem dX53_put_91 : decode cX53_put 91 = .ok (.iconst 0, 1) := dk_3 (dk_at dksX53_put_3 22 rfl rfl)
theorem dX53_put_92 : decode cX53_put 92 = .ok (.istore_n 3, 1) := dk_62 (dk_at dksX53_put_3 23 rfl rfl)
theorem dX53_put_93 : decode cX53_put 93 = .ok (.iload_n 3, 1) := dk_29 (dk_at dksX53_put_4 0 rfl rfl)
theorem dX53_put_94 : decode cX53_put 94 = .ok (.aload_n 0, 1) := dk_42 (dk_at dksX53_put_4 1 rfl rfl)
theorem dX53_put_95 : decode cX53_put 95 = .ok (.getfield 81, 3) := dk_180 0 81 (dk_at dksX53_put_4 2 rfl rfl)
theorem dX53_put_98 : decode cX53_put 98 = .ok (.if_icmp .ge 31, 3) := dk_162 0 31 (dk_at dksX53_put_4 5 rfl rfl)
theorem dX53_put_101 : decode cX53_put 101 = .ok (.iload_n 3, 1) := dk_29 (dk_at dksX53_put_4 8 rfl rfl)
theorem dX53_put_102 : decode cX53_put 102 = .ok (.iload_n 1, 1) := dk_27 (dk_at dksX53_put_4 9 rfl rfl)
theorem dX53_put_103 : decode cX53_put 103 = .ok (.if_icmp .eq 20, 3) := dk_159 0 20 (dk_at dksX53_put_4 10 rfl rfl)
theorem dX53_put_106 : decode cX53_put 106 = .ok (.aload_n 0, 1) := dk_42 (dk_at dksX53_put_4 13 rfl rfl)
theorem dX53_put_107 : decode cX53_put 107 = .ok (.aload_n 0, 1) := dk_42 (dk_at dksX53_put_4 14 rfl rfl)
theorem dX53_put_108 : decode cX53_put 108 = .ok (.getfield 60, 3) := dk_180 0 60 (dk_at dksX53_put_4 15 rfl rfl)
theorem dX53_put_111 : decode cX53_put 111 = .ok (.iload_n 1, 1) := dk_27 (dk_at dksX53_put_4 18 rfl rfl)
theorem dX53_put_112 : decode cX53_put 112 = .ok (.iload_n 3, 1) := dk_29 (dk_at dksX53_put_4 19 rfl rfl)
theorem dX53_put_113 : decode cX53_put 113 = .ok (.invokevirtual 112, 3) := dk_182 0 112 (dk_at dksX53_put_4 20 rfl rfl)
theorem dX53_put_116 : decode cX53_put 116 = .ok (.ifCond .eq 7, 3) := dk_153 0 7 (dk_at dksX53_put_5 0 rfl rfl)
theorem dX53_put_119 : decode cX53_put 119 = .ok (.iconst 1, 1) := dk_4 (dk_at dksX53_put_5 3 rfl rfl)
theorem dX53_put_120 : decode cX53_put 120 = .ok (.iload_n 3, 1) := dk_29 (dk_at dksX53_put_5 4 rfl rfl)
theorem dX53_put_121 : decode cX53_put 121 = .ok (.iadd, 1) := dk_96 (dk_at dksX53_put_5 5 rfl rfl)
theorem dX53_put_122 : decode cX53_put 122 = .ok (.ireturn, 1) := dk_172 (dk_at dksX53_put_5 6 rfl rfl)
theorem dX53_put_123 : decode cX53_put 123 = .ok (.iinc 3 1, 3) := dk_132 3 1 (dk_at dksX53_put_5 7 rfl rfl)
theorem dX53_put_126 : decode cX53_put 126 = .ok (.goto (-33), 3) := dk_167 255 223 (dk_at dksX53_put_5 10 rfl rfl)
theorem dX53_put_129 : decode cX53_put 129 = .ok (.aload_n 0, 1) := dk_42 (dk_at dksX53_put_5 13 rfl rfl)
theorem dX53_put_130 : decode cX53_put 130 = .ok (.aload_n 0, 1) := dk_42 (dk_at dksX53_put_5 14 rfl rfl)
theorem dX53_put_131 : decode cX53_put 131 = .ok (.getfield 60, 3) := dk_180 0 60 (dk_at dksX53_put_5 15 rfl rfl)
theorem dX53_put_134 : decode cX53_put 134 = .ok (.aload_n 0, 1) := dk_42 (dk_at dksX53_put_5 18 rfl rfl)
theorem dX53_put_135 : decode cX53_put 135 = .ok (.getfield 19, 3) := dk_180 0 19 (dk_at dksX53_put_5 19 rfl rfl)
theorem dX53_put_138 : decode cX53_put 138 = .ok (.iload_n 1, 1) := dk_27 (dk_at dksX53_put_5 22 rfl rfl)
theorem dX53_put_139 : decode cX53_put 139 = .ok (.iaload, 1) := dk_46 (dk_at dksX53_put_5 23 rfl rfl)
theorem dX53_put_140 : decode cX53_put 140 = .ok (.invokevirtual 116, 3) := dk_182 0 116 (dk_at dksX53_put_6 0 rfl rfl)
theorem dX53_put_143 : decode cX53_put 143 = .ok (.ifCond .eq 8, 3) := dk_153 0 8 (dk_at dksX53_put_6 3 rfl rfl)
theorem dX53_put_146 : decode cX53_put 146 = .ok (.bipush 100, 2) := dk_16 100 (dk_at dksX53_put_6 6 rfl rfl)
theorem dX53_put_148 : decode cX53_put 148 = .ok (.goto 30, 3) := dk_167 0 30 (dk_at dksX53_put_6 8 rfl rfl)
theorem dX53_put_151 : decode cX53_put 151 = .ok (.aload_n 0, 1) := dk_42 (dk_at dksX53_put_6 11 rfl rfl)
theorem dX53_put_152 : decode cX53_put 152 = .ok (.aload_n 0, 1) := dk_42 (dk_at dksX53_put_6 12 rfl rfl)
theorem dX53_put_153 : decode cX53_put 153 = .ok (.getfield 60, 3) := dk_180 0 60 (dk_at dksX53_put_6 13 rfl rfl)
theorem dX53_put_156 : decode cX53_put 156 = .ok (.iload_n 2, 1) := dk_28 (dk_at dksX53_put_6 16 rfl rfl)
theorem dX53_put_157 : decode cX53_put 157 = .ok (.invokevirtual 120, 3) := dk_182 0 120 (dk_at dksX53_put_6 17 rfl rfl)
theorem dX53_put_160 : decode cX53_put 160 = .ok (.aload_n 0, 1) := dk_42 (dk_at dksX53_put_6 20 rfl rfl)
theorem dX53_put_161 : decode cX53_put 161 = .ok (.getfield 16, 3) := dk_180 0 16 (dk_at dksX53_put_6 21 rfl rfl)
theorem dX53_put_164 : decode cX53_put 164 = .ok (.iload_n 2, 1) := dk_28 (dk_at dksX53_put_7 0 rfl rfl)
theorem dX53_put_165 : decode cX53_put 165 = .ok (.iaload, 1) := dk_46 (dk_at dksX53_put_7 1 rfl rfl)
theorem dX53_put_166 : decode cX53_put 166 = .ok (.i2l, 1) := dk_133 (dk_at dksX53_put_7 2 rfl rfl)
theorem dX53_put_167 : decode cX53_put 167 = .ok (.lcmp, 1) := dk_148 (dk_at dksX53_put_7 3 rfl rfl)
theorem dX53_put_168 : decode cX53_put 168 = .ok (.ifCond .le 8, 3) := dk_158 0 8 (dk_at dksX53_put_7 4 rfl rfl)
theorem dX53_put_171 : decode cX53_put 171 = .ok (.bipush 101, 2) := dk_16 101 (dk_at dksX53_put_7 7 rfl rfl)
theorem dX53_put_173 : decode cX53_put 173 = .ok (.goto 5, 3) := dk_167 0 5 (dk_at dksX53_put_7 9 rfl rfl)
theorem dX53_put_176 : decode cX53_put 176 = .ok (.bipush 102, 2) := dk_16 102 (dk_at dksX53_put_7 12 rfl rfl)
theorem dX53_put_178 : decode cX53_put 178 = .ok (.ireturn, 1) := dk_172 (dk_at dksX53_put_7 14 rfl rfl)
abbrev cX53_isLoad : ByteArray := prog_58_method_6_code
def yX53_isLoad : MethodName := ⟨RX53, "isLoad", "(I)Z"⟩
def dkwX53_isLoad_0 : List UInt8 := [27, 155, 0, 15, 27, 42, 180, 0, 81, 162, 0, 7, 4, 167, 0, 4, 3, 172]
abbrev dktX53_isLoad_0 : List UInt8 := dkwX53_isLoad_0 ++ []
theorem dksX53_isLoad_0 : cX53_isLoad.data.toList.drop 0 = dktX53_isLoad_0 := by decide +kernel
theorem dX53_isLoad_0 : decode cX53_isLoad 0 = .ok (.iload_n 1, 1) := dk_27 (dk_at dksX53_isLoad_0 0 rfl rfl)
theorem dX53_isLoad_1 : decode cX53_isLoad 1 = .ok (.ifCond .lt 15, 3) := dk_155 0 15 (dk_at dksX53_isLoad_0 1 rfl rfl)
theorem dX53_isLoad_4 : decode cX53_isLoad 4 = .ok (.iload_n 1, 1) := dk_27 (dk_at dksX53_isLoad_0 4 rfl rfl)
theorem dX53_isLoad_5 : decode cX53_isLoad 5 = .ok (.aload_n 0, 1) := dk_42 (dk_at dksX53_isLoad_0 5 rfl rfl)
theorem dX53_isLoad_6 : decode cX53_isLoad 6 = .ok (.getfield 81, 3) := dk_180 0 81 (dk_at dksX53_isLoad_0 6 rfl rfl)
theorem dX53_isLoad_9 : decode cX53_isLoad 9 = .ok (.if_icmp .ge 7, 3) := dk_162 0 7 (dk_at dksX53_isLoad_0 9 rfl rfl)
theorem dX53_isLoad_12 : decode cX53_isLoad 12 = .ok (.iconst 1, 1) := dk_4 (dk_at dksX53_isLoad_0 12 rfl rfl)
theorem dX53_isLoad_13 : decode cX53_isLoad 13 = .ok (.goto 4, 3) := dk_167 0 4 (dk_at dksX53_isLoad_0 13 rfl rfl)
theorem dX53_isLoad_16 : decode cX53_isLoad 16 = .ok (.iconst 0, 1) := dk_3 (dk_at dksX53_isLoad_0 16 rfl rfl)
theorem dX53_isLoad_17 : decode cX53_isLoad 17 = .ok (.ireturn, 1) := dk_172 (dk_at dksX53_isLoad_0 17 rfl rfl)
abbrev cX53_isPlace : ByteArray := prog_58_method_5_code
def yX53_isPlace : MethodName := ⟨RX53, "isPlace", "(I)Z"⟩
def dkwX53_isPlace_0 : List UInt8 := [27, 155, 0, 15, 27, 42, 180, 0, 78, 162, 0, 7, 4, 167, 0, 4, 3, 172]
abbrev dktX53_isPlace_0 : List UInt8 := dkwX53_isPlace_0 ++ []
theorem dksX53_isPlace_0 : cX53_isPlace.data.toList.drop 0 = dktX53_isPlace_0 := by decide +kernel
theorem dX53_isPlace_0 : decode cX53_isPlace 0 = .ok (.iload_n 1, 1) := dk_27 (dk_at dksX53_isPlace_0 0 rfl rfl)
theorem dX53_isPlace_1 : decode cX53_isPlace 1 = .ok (.ifCond .lt 15, 3) := dk_155 0 15 (dk_at dksX53_isPlace_0 1 rfl rfl)
theorem dX53_isPlace_4 : decode cX53_isPlace 4 = .ok (.iload_n 1, 1) := dk_27 (dk_at dksX53_isPlace_0 4 rfl rfl)
theorem dX53_isPlace_5 : decode cX53_isPlace 5 = .ok (.aload_n 0, 1) := dk_42 (dk_at dksX53_isPlace_0 5 rfl rfl)
theorem dX53_isPlace_6 : decode cX53_isPlace 6 = .ok (.getfield 78, 3) := dk_180 0 78 (dk_at dksX53_isPlace_0 6 rfl rfl)
theorem dX53_isPlace_9 : decode cX53_isPlace 9 = .ok (.if_icmp .ge 7, 3) := dk_162 0 7 (dk_at dksX53_isPlace_0 9 rfl rfl)
theorem dX53_isPlace_12 : decode cX53_isPlace 12 = .ok (.iconst 1, 1) := dk_4 (dk_at dksX53_isPlace_0 12 rfl rfl)
theorem dX53_isPlace_13 : decode cX53_isPlace 13 = .ok (.goto 4, 3) := dk_167 0 4 (dk_at dksX53_isPlace_0 13 rfl rfl)
theorem dX53_isPlace_16 : decode cX53_isPlace 16 = .ok (.iconst 0, 1) := dk_3 (dk_at dksX53_isPlace_0 16 rfl rfl)
theorem dX53_isPlace_17 : decode cX53_isPlace 17 = .ok (.ireturn, 1) := dk_172 (dk_at dksX53_isPlace_0 17 rfl rfl)
abbrev cX53_isGood : ByteArray := prog_58_method_15_code
def yX53_isGood : MethodName := ⟨RX53, "isGood", "([I)Z"⟩
def dkwX53_isGood_5 : List UInt8 := [157, 0, 7, 4, 167, 0, 4, 3, 61, 132, 3, 1, 167, 255, 218, 28, 172]
abbrev dktX53_isGood_5 : List UInt8 := dkwX53_isGood_5 ++ []
def dkwX53_isGood_4 : List UInt8 := [180, 0, 78, 162, 0, 36, 28, 153, 0, 24, 42, 43, 29, 182, 0, 120, 42, 180, 0, 16, 29, 46, 133, 148]
abbrev dktX53_isGood_4 : List UInt8 := dkwX53_isGood_4 ++ dktX53_isGood_5
def dkwX53_isGood_3 : List UInt8 := [182, 0, 116, 154, 0, 7, 4, 167, 0, 4, 3, 61, 132, 3, 1, 167, 255, 228, 3, 62, 29, 42]
abbrev dktX53_isGood_3 : List UInt8 := dkwX53_isGood_3 ++ dktX53_isGood_4
def dkwX53_isGood_2 : List UInt8 := [167, 255, 226, 132, 3, 1, 167, 255, 209, 3, 62, 29, 16, 6, 162, 0, 28, 28, 153, 0, 16, 42, 43, 29]
abbrev dktX53_isGood_2 : List UInt8 := dkwX53_isGood_2 ++ dktX53_isGood_3
def dkwX53_isGood_1 : List UInt8 := [153, 0, 18, 42, 43, 29, 21, 4, 182, 0, 112, 154, 0, 7, 4, 167, 0, 4, 3, 61, 132, 4, 1]
abbrev dktX53_isGood_1 : List UInt8 := dkwX53_isGood_1 ++ dktX53_isGood_2
def dkwX53_isGood_0 : List UInt8 := [4, 61, 3, 62, 29, 42, 180, 0, 81, 162, 0, 45, 3, 54, 4, 21, 4, 29, 162, 0, 30, 28]
abbrev dktX53_isGood_0 : List UInt8 := dkwX53_isGood_0 ++ dktX53_isGood_1
theorem dksX53_isGood_0 : cX53_isGood.data.toList.drop 0 = dktX53_isGood_0 := by decide +kernel
theorem dksX53_isGood_1 : cX53_isGood.data.toList.drop 22 = dktX53_isGood_1 := dk_seg dksX53_isGood_0 22 rfl rfl
theorem dksX53_isGood_2 : cX53_isGood.data.toList.drop 45 = dktX53_isGood_2 := dk_seg dksX53_isGood_1 23 rfl rfl
theorem dksX53_isGood_3 : cX53_isGood.data.toList.drop 69 = dktX53_isGood_3 := dk_seg dksX53_isGood_2 24 rfl rfl
theorem dksX53_isGood_4 : cX53_isGood.data.toList.drop 91 = dktX53_isGood_4 := dk_seg dksX53_isGood_3 22 rfl rfl
theorem dksX53_isGood_5 : cX53_isGood.data.toList.drop 115 = dktX53_isGood_5 := dk_seg dksX53_isGood_4 24 rfl rfl
theorem dX53_isGood_0 : decode cX53_isGood 0 = .ok (.iconst 1, 1) := dk_4 (dk_at dksX53_isGood_0 0 rfl rfl)
theorem dX53_isGood_1 : decode cX53_isGood 1 = .ok (.istore_n 2, 1) := dk_61 (dk_at dksX53_isGood_0 1 rfl rfl)
theorem dX53_isGood_2 : decode cX53_isGood 2 = .ok (.iconst 0, 1) := dk_3 (dk_at dksX53_isGood_0 2 rfl rfl)
theorem dX53_isGood_3 : decode cX53_isGood 3 = .ok (.istore_n 3, 1) := dk_62 (dk_at dksX53_isGood_0 3 rfl rfl)
theorem dX53_isGood_4 : decode cX53_isGood 4 = .ok (.iload_n 3, 1) := dk_29 (dk_at dksX53_isGood_0 4 rfl rfl)
theorem dX53_isGood_5 : decode cX53_isGood 5 = .ok (.aload_n 0, 1) := dk_42 (dk_at dksX53_isGood_0 5 rfl rfl)
theorem dX53_isGood_6 : decode cX53_isGood 6 = .ok (.getfield 81, 3) := dk_180 0 81 (dk_at dksX53_isGood_0 6 rfl rfl)
theorem dX53_isGood_9 : decode cX53_isGood 9 = .ok (.if_icmp .ge 45, 3) := dk_162 0 45 (dk_at dksX53_isGood_0 9 rfl rfl)
theorem dX53_isGood_12 : decode cX53_isGood 12 = .ok (.iconst 0, 1) := dk_3 (dk_at dksX53_isGood_0 12 rfl rfl)
theorem dX53_isGood_13 : decode cX53_isGood 13 = .ok (.istore 4, 2) := dk_54 4 (dk_at dksX53_isGood_0 13 rfl rfl)
theorem dX53_isGood_15 : decode cX53_isGood 15 = .ok (.iload 4, 2) := dk_21 4 (dk_at dksX53_isGood_0 15 rfl rfl)
theorem dX53_isGood_17 : decode cX53_isGood 17 = .ok (.iload_n 3, 1) := dk_29 (dk_at dksX53_isGood_0 17 rfl rfl)
theorem dX53_isGood_18 : decode cX53_isGood 18 = .ok (.if_icmp .ge 30, 3) := dk_162 0 30 (dk_at dksX53_isGood_0 18 rfl rfl)
theorem dX53_isGood_21 : decode cX53_isGood 21 = .ok (.iload_n 2, 1) := dk_28 (dk_at dksX53_isGood_0 21 rfl rfl)
theorem dX53_isGood_22 : decode cX53_isGood 22 = .ok (.ifCond .eq 18, 3) := dk_153 0 18 (dk_at dksX53_isGood_1 0 rfl rfl)
theorem dX53_isGood_25 : decode cX53_isGood 25 = .ok (.aload_n 0, 1) := dk_42 (dk_at dksX53_isGood_1 3 rfl rfl)
theorem dX53_isGood_26 : decode cX53_isGood 26 = .ok (.aload_n 1, 1) := dk_43 (dk_at dksX53_isGood_1 4 rfl rfl)
theorem dX53_isGood_27 : decode cX53_isGood 27 = .ok (.iload_n 3, 1) := dk_29 (dk_at dksX53_isGood_1 5 rfl rfl)
theorem dX53_isGood_28 : decode cX53_isGood 28 = .ok (.iload 4, 2) := dk_21 4 (dk_at dksX53_isGood_1 6 rfl rfl)
theorem dX53_isGood_30 : decode cX53_isGood 30 = .ok (.invokevirtual 112, 3) := dk_182 0 112 (dk_at dksX53_isGood_1 8 rfl rfl)
theorem dX53_isGood_33 : decode cX53_isGood 33 = .ok (.ifCond .ne 7, 3) := dk_154 0 7 (dk_at dksX53_isGood_1 11 rfl rfl)
theorem dX53_isGood_36 : decode cX53_isGood 36 = .ok (.iconst 1, 1) := dk_4 (dk_at dksX53_isGood_1 14 rfl rfl)
theorem dX53_isGood_37 : decode cX53_isGood 37 = .ok (.goto 4, 3) := dk_167 0 4 (dk_at dksX53_isGood_1 15 rfl rfl)
theorem dX53_isGood_40 : decode cX53_isGood 40 = .ok (.iconst 0, 1) := dk_3 (dk_at dksX53_isGood_1 18 rfl rfl)
theorem dX53_isGood_41 : decode cX53_isGood 41 = .ok (.istore_n 2, 1) := dk_61 (dk_at dksX53_isGood_1 19 rfl rfl)
theorem dX53_isGood_42 : decode cX53_isGood 42 = .ok (.iinc 4 1, 3) := dk_132 4 1 (dk_at dksX53_isGood_1 20 rfl rfl)
theorem dX53_isGood_45 : decode cX53_isGood 45 = .ok (.goto (-30), 3) := dk_167 255 226 (dk_at dksX53_isGood_2 0 rfl rfl)
theorem dX53_isGood_48 : decode cX53_isGood 48 = .ok (.iinc 3 1, 3) := dk_132 3 1 (dk_at dksX53_isGood_2 3 rfl rfl)
theorem dX53_isGood_51 : decode cX53_isGood 51 = .ok (.goto (-47), 3) := dk_167 255 209 (dk_at dksX53_isGood_2 6 rfl rfl)
theorem dX53_isGood_54 : decode cX53_isGood 54 = .ok (.iconst 0, 1) := dk_3 (dk_at dksX53_isGood_2 9 rfl rfl)
theorem dX53_isGood_55 : decode cX53_isGood 55 = .ok (.istore_n 3, 1) := dk_62 (dk_at dksX53_isGood_2 10 rfl rfl)
theorem dX53_isGood_56 : decode cX53_isGood 56 = .ok (.iload_n 3, 1) := dk_29 (dk_at dksX53_isGood_2 11 rfl rfl)
theorem dX53_isGood_57 : decode cX53_isGood 57 = .ok (.bipush 6, 2) := dk_16 6 (dk_at dksX53_isGood_2 12 rfl rfl)
theorem dX53_isGood_59 : decode cX53_isGood 59 = .ok (.if_icmp .ge 28, 3) := dk_162 0 28 (dk_at dksX53_isGood_2 14 rfl rfl)
theorem dX53_isGood_62 : decode cX53_isGood 62 = .ok (.iload_n 2, 1) := dk_28 (dk_at dksX53_isGood_2 17 rfl rfl)
theorem dX53_isGood_63 : decode cX53_isGood 63 = .ok (.ifCond .eq 16, 3) := dk_153 0 16 (dk_at dksX53_isGood_2 18 rfl rfl)
theorem dX53_isGood_66 : decode cX53_isGood 66 = .ok (.aload_n 0, 1) := dk_42 (dk_at dksX53_isGood_2 21 rfl rfl)
theorem dX53_isGood_67 : decode cX53_isGood 67 = .ok (.aload_n 1, 1) := dk_43 (dk_at dksX53_isGood_2 22 rfl rfl)
theorem dX53_isGood_68 : decode cX53_isGood 68 = .ok (.iload_n 3, 1) := dk_29 (dk_at dksX53_isGood_2 23 rfl rfl)
theorem dX53_isGood_69 : decode cX53_isGood 69 = .ok (.invokevirtual 116, 3) := dk_182 0 116 (dk_at dksX53_isGood_3 0 rfl rfl)
theorem dX53_isGood_72 : decode cX53_isGood 72 = .ok (.ifCond .ne 7, 3) := dk_154 0 7 (dk_at dksX53_isGood_3 3 rfl rfl)
theorem dX53_isGood_75 : decode cX53_isGood 75 = .ok (.iconst 1, 1) := dk_4 (dk_at dksX53_isGood_3 6 rfl rfl)
theorem dX53_isGood_76 : decode cX53_isGood 76 = .ok (.goto 4, 3) := dk_167 0 4 (dk_at dksX53_isGood_3 7 rfl rfl)
theorem dX53_isGood_79 : decode cX53_isGood 79 = .ok (.iconst 0, 1) := dk_3 (dk_at dksX53_isGood_3 10 rfl rfl)
theorem dX53_isGood_80 : decode cX53_isGood 80 = .ok (.istore_n 2, 1) := dk_61 (dk_at dksX53_isGood_3 11 rfl rfl)
theorem dX53_isGood_81 : decode cX53_isGood 81 = .ok (.iinc 3 1, 3) := dk_132 3 1 (dk_at dksX53_isGood_3 12 rfl rfl)
theorem dX53_isGood_84 : decode cX53_isGood 84 = .ok (.goto (-28), 3) := dk_167 255 228 (dk_at dksX53_isGood_3 15 rfl rfl)
theorem dX53_isGood_87 : decode cX53_isGood 87 = .ok (.iconst 0, 1) := dk_3 (dk_at dksX53_isGood_3 18 rfl rfl)
theorem dX53_isGood_88 : decode cX53_isGood 88 = .ok (.istore_n 3, 1) := dk_62 (dk_at dksX53_isGood_3 19 rfl rfl)
theorem dX53_isGood_89 : decode cX53_isGood 89 = .ok (.iload_n 3, 1) := dk_29 (dk_at dksX53_isGood_3 20 rfl rfl)
theorem dX53_isGood_90 : decode cX53_isGood 90 = .ok (.aload_n 0, 1) := dk_42 (dk_at dksX53_isGood_3 21 rfl rfl)
theorem dX53_isGood_91 : decode cX53_isGood 91 = .ok (.getfield 78, 3) := dk_180 0 78 (dk_at dksX53_isGood_4 0 rfl rfl)
theorem dX53_isGood_94 : decode cX53_isGood 94 = .ok (.if_icmp .ge 36, 3) := dk_162 0 36 (dk_at dksX53_isGood_4 3 rfl rfl)
theorem dX53_isGood_97 : decode cX53_isGood 97 = .ok (.iload_n 2, 1) := dk_28 (dk_at dksX53_isGood_4 6 rfl rfl)
theorem dX53_isGood_98 : decode cX53_isGood 98 = .ok (.ifCond .eq 24, 3) := dk_153 0 24 (dk_at dksX53_isGood_4 7 rfl rfl)
theorem dX53_isGood_101 : decode cX53_isGood 101 = .ok (.aload_n 0, 1) := dk_42 (dk_at dksX53_isGood_4 10 rfl rfl)
theorem dX53_isGood_102 : decode cX53_isGood 102 = .ok (.aload_n 1, 1) := dk_43 (dk_at dksX53_isGood_4 11 rfl rfl)
theorem dX53_isGood_103 : decode cX53_isGood 103 = .ok (.iload_n 3, 1) := dk_29 (dk_at dksX53_isGood_4 12 rfl rfl)
theorem dX53_isGood_104 : decode cX53_isGood 104 = .ok (.invokevirtual 120, 3) := dk_182 0 120 (dk_at dksX53_isGood_4 13 rfl rfl)
theorem dX53_isGood_107 : decode cX53_isGood 107 = .ok (.aload_n 0, 1) := dk_42 (dk_at dksX53_isGood_4 16 rfl rfl)
theorem dX53_isGood_108 : decode cX53_isGood 108 = .ok (.getfield 16, 3) := dk_180 0 16 (dk_at dksX53_isGood_4 17 rfl rfl)
theorem dX53_isGood_111 : decode cX53_isGood 111 = .ok (.iload_n 3, 1) := dk_29 (dk_at dksX53_isGood_4 20 rfl rfl)
theorem dX53_isGood_112 : decode cX53_isGood 112 = .ok (.iaload, 1) := dk_46 (dk_at dksX53_isGood_4 21 rfl rfl)
theorem dX53_isGood_113 : decode cX53_isGood 113 = .ok (.i2l, 1) := dk_133 (dk_at dksX53_isGood_4 22 rfl rfl)
theorem dX53_isGood_114 : decode cX53_isGood 114 = .ok (.lcmp, 1) := dk_148 (dk_at dksX53_isGood_4 23 rfl rfl)
theorem dX53_isGood_115 : decode cX53_isGood 115 = .ok (.ifCond .gt 7, 3) := dk_157 0 7 (dk_at dksX53_isGood_5 0 rfl rfl)
theorem dX53_isGood_118 : decode cX53_isGood 118 = .ok (.iconst 1, 1) := dk_4 (dk_at dksX53_isGood_5 3 rfl rfl)
theorem dX53_isGood_119 : decode cX53_isGood 119 = .ok (.goto 4, 3) := dk_167 0 4 (dk_at dksX53_isGood_5 4 rfl rfl)
theorem dX53_isGood_122 : decode cX53_isGood 122 = .ok (.iconst 0, 1) := dk_3 (dk_at dksX53_isGood_5 7 rfl rfl)
theorem dX53_isGood_123 : decode cX53_isGood 123 = .ok (.istore_n 2, 1) := dk_61 (dk_at dksX53_isGood_5 8 rfl rfl)
theorem dX53_isGood_124 : decode cX53_isGood 124 = .ok (.iinc 3 1, 3) := dk_132 3 1 (dk_at dksX53_isGood_5 9 rfl rfl)
theorem dX53_isGood_127 : decode cX53_isGood 127 = .ok (.goto (-38), 3) := dk_167 255 218 (dk_at dksX53_isGood_5 12 rfl rfl)
theorem dX53_isGood_130 : decode cX53_isGood 130 = .ok (.iload_n 2, 1) := dk_28 (dk_at dksX53_isGood_5 15 rfl rfl)
theorem dX53_isGood_131 : decode cX53_isGood 131 = .ok (.ireturn, 1) := dk_172 (dk_at dksX53_isGood_5 16 rfl rfl)
abbrev cX53_isNear : ByteArray := prog_58_method_12_code
def yX53_isNear : MethodName := ⟨RX53, "isNear", "([III)Z"⟩
def dkwX53_isNear_2 : List UInt8 := [21, 4, 104, 162, 0, 7, 4, 167, 0, 4, 3, 172]
abbrev dktX53_isNear_2 : List UInt8 := dkwX53_isNear_2 ++ []
def dkwX53_isNear_1 : List UInt8 := [28, 46, 155, 0, 31, 43, 29, 46, 155, 0, 25, 42, 43, 28, 46, 43, 29, 46, 182, 0, 104, 21, 4]
abbrev dktX53_isNear_1 : List UInt8 := dkwX53_isNear_1 ++ dktX53_isNear_2
def dkwX53_isNear_0 : List UInt8 := [42, 180, 0, 39, 16, 6, 42, 180, 0, 19, 28, 46, 104, 42, 180, 0, 19, 29, 46, 96, 46, 54, 4, 43]
abbrev dktX53_isNear_0 : List UInt8 := dkwX53_isNear_0 ++ dktX53_isNear_1
theorem dksX53_isNear_0 : cX53_isNear.data.toList.drop 0 = dktX53_isNear_0 := by decide +kernel
theorem dksX53_isNear_1 : cX53_isNear.data.toList.drop 24 = dktX53_isNear_1 := dk_seg dksX53_isNear_0 24 rfl rfl
theorem dksX53_isNear_2 : cX53_isNear.data.toList.drop 47 = dktX53_isNear_2 := dk_seg dksX53_isNear_1 23 rfl rfl
theorem dX53_isNear_0 : decode cX53_isNear 0 = .ok (.aload_n 0, 1) := dk_42 (dk_at dksX53_isNear_0 0 rfl rfl)
theorem dX53_isNear_1 : decode cX53_isNear 1 = .ok (.getfield 39, 3) := dk_180 0 39 (dk_at dksX53_isNear_0 1 rfl rfl)
theorem dX53_isNear_4 : decode cX53_isNear 4 = .ok (.bipush 6, 2) := dk_16 6 (dk_at dksX53_isNear_0 4 rfl rfl)
theorem dX53_isNear_6 : decode cX53_isNear 6 = .ok (.aload_n 0, 1) := dk_42 (dk_at dksX53_isNear_0 6 rfl rfl)
theorem dX53_isNear_7 : decode cX53_isNear 7 = .ok (.getfield 19, 3) := dk_180 0 19 (dk_at dksX53_isNear_0 7 rfl rfl)
theorem dX53_isNear_10 : decode cX53_isNear 10 = .ok (.iload_n 2, 1) := dk_28 (dk_at dksX53_isNear_0 10 rfl rfl)
theorem dX53_isNear_11 : decode cX53_isNear 11 = .ok (.iaload, 1) := dk_46 (dk_at dksX53_isNear_0 11 rfl rfl)
theorem dX53_isNear_12 : decode cX53_isNear 12 = .ok (.imul, 1) := dk_104 (dk_at dksX53_isNear_0 12 rfl rfl)
theorem dX53_isNear_13 : decode cX53_isNear 13 = .ok (.aload_n 0, 1) := dk_42 (dk_at dksX53_isNear_0 13 rfl rfl)
theorem dX53_isNear_14 : decode cX53_isNear 14 = .ok (.getfield 19, 3) := dk_180 0 19 (dk_at dksX53_isNear_0 14 rfl rfl)
theorem dX53_isNear_17 : decode cX53_isNear 17 = .ok (.iload_n 3, 1) := dk_29 (dk_at dksX53_isNear_0 17 rfl rfl)
theorem dX53_isNear_18 : decode cX53_isNear 18 = .ok (.iaload, 1) := dk_46 (dk_at dksX53_isNear_0 18 rfl rfl)
theorem dX53_isNear_19 : decode cX53_isNear 19 = .ok (.iadd, 1) := dk_96 (dk_at dksX53_isNear_0 19 rfl rfl)
theorem dX53_isNear_20 : decode cX53_isNear 20 = .ok (.iaload, 1) := dk_46 (dk_at dksX53_isNear_0 20 rfl rfl)
theorem dX53_isNear_21 : decode cX53_isNear 21 = .ok (.istore 4, 2) := dk_54 4 (dk_at dksX53_isNear_0 21 rfl rfl)
theorem dX53_isNear_23 : decode cX53_isNear 23 = .ok (.aload_n 1, 1) := dk_43 (dk_at dksX53_isNear_0 23 rfl rfl)
theorem dX53_isNear_24 : decode cX53_isNear 24 = .ok (.iload_n 2, 1) := dk_28 (dk_at dksX53_isNear_1 0 rfl rfl)
theorem dX53_isNear_25 : decode cX53_isNear 25 = .ok (.iaload, 1) := dk_46 (dk_at dksX53_isNear_1 1 rfl rfl)
theorem dX53_isNear_26 : decode cX53_isNear 26 = .ok (.ifCond .lt 31, 3) := dk_155 0 31 (dk_at dksX53_isNear_1 2 rfl rfl)
theorem dX53_isNear_29 : decode cX53_isNear 29 = .ok (.aload_n 1, 1) := dk_43 (dk_at dksX53_isNear_1 5 rfl rfl)
theorem dX53_isNear_30 : decode cX53_isNear 30 = .ok (.iload_n 3, 1) := dk_29 (dk_at dksX53_isNear_1 6 rfl rfl)
theorem dX53_isNear_31 : decode cX53_isNear 31 = .ok (.iaload, 1) := dk_46 (dk_at dksX53_isNear_1 7 rfl rfl)
theorem dX53_isNear_32 : decode cX53_isNear 32 = .ok (.ifCond .lt 25, 3) := dk_155 0 25 (dk_at dksX53_isNear_1 8 rfl rfl)
theorem dX53_isNear_35 : decode cX53_isNear 35 = .ok (.aload_n 0, 1) := dk_42 (dk_at dksX53_isNear_1 11 rfl rfl)
theorem dX53_isNear_36 : decode cX53_isNear 36 = .ok (.aload_n 1, 1) := dk_43 (dk_at dksX53_isNear_1 12 rfl rfl)
theorem dX53_isNear_37 : decode cX53_isNear 37 = .ok (.iload_n 2, 1) := dk_28 (dk_at dksX53_isNear_1 13 rfl rfl)
theorem dX53_isNear_38 : decode cX53_isNear 38 = .ok (.iaload, 1) := dk_46 (dk_at dksX53_isNear_1 14 rfl rfl)
theorem dX53_isNear_39 : decode cX53_isNear 39 = .ok (.aload_n 1, 1) := dk_43 (dk_at dksX53_isNear_1 15 rfl rfl)
theorem dX53_isNear_40 : decode cX53_isNear 40 = .ok (.iload_n 3, 1) := dk_29 (dk_at dksX53_isNear_1 16 rfl rfl)
theorem dX53_isNear_41 : decode cX53_isNear 41 = .ok (.iaload, 1) := dk_46 (dk_at dksX53_isNear_1 17 rfl rfl)
theorem dX53_isNear_42 : decode cX53_isNear 42 = .ok (.invokevirtual 104, 3) := dk_182 0 104 (dk_at dksX53_isNear_1 18 rfl rfl)
theorem dX53_isNear_45 : decode cX53_isNear 45 = .ok (.iload 4, 2) := dk_21 4 (dk_at dksX53_isNear_1 21 rfl rfl)
theorem dX53_isNear_47 : decode cX53_isNear 47 = .ok (.iload 4, 2) := dk_21 4 (dk_at dksX53_isNear_2 0 rfl rfl)
theorem dX53_isNear_49 : decode cX53_isNear 49 = .ok (.imul, 1) := dk_104 (dk_at dksX53_isNear_2 2 rfl rfl)
theorem dX53_isNear_50 : decode cX53_isNear 50 = .ok (.if_icmp .ge 7, 3) := dk_162 0 7 (dk_at dksX53_isNear_2 3 rfl rfl)
theorem dX53_isNear_53 : decode cX53_isNear 53 = .ok (.iconst 1, 1) := dk_4 (dk_at dksX53_isNear_2 6 rfl rfl)
theorem dX53_isNear_54 : decode cX53_isNear 54 = .ok (.goto 4, 3) := dk_167 0 4 (dk_at dksX53_isNear_2 7 rfl rfl)
theorem dX53_isNear_57 : decode cX53_isNear 57 = .ok (.iconst 0, 1) := dk_3 (dk_at dksX53_isNear_2 10 rfl rfl)
theorem dX53_isNear_58 : decode cX53_isNear 58 = .ok (.ireturn, 1) := dk_172 (dk_at dksX53_isNear_2 11 rfl rfl)
abbrev cX53_square : ByteArray := prog_58_method_11_code
def yX53_square : MethodName := ⟨RX53, "square", "(II)I"⟩
def dkwX53_square_2 : List UInt8 := [180, 0, 13, 28, 46, 100, 104, 96, 172]
abbrev dktX53_square_2 : List UInt8 := dkwX53_square_2 ++ []
def dkwX53_square_1 : List UInt8 := [46, 100, 104, 42, 180, 0, 13, 27, 46, 42, 180, 0, 13, 28, 46, 100, 42, 180, 0, 13, 27, 46, 42]
abbrev dktX53_square_1 : List UInt8 := dkwX53_square_1 ++ dktX53_square_2
def dkwX53_square_0 : List UInt8 := [42, 180, 0, 7, 27, 46, 42, 180, 0, 7, 28, 46, 100, 42, 180, 0, 7, 27, 46, 42, 180, 0, 7, 28]
abbrev dktX53_square_0 : List UInt8 := dkwX53_square_0 ++ dktX53_square_1
theorem dksX53_square_0 : cX53_square.data.toList.drop 0 = dktX53_square_0 := by decide +kernel
theorem dksX53_square_1 : cX53_square.data.toList.drop 24 = dktX53_square_1 := dk_seg dksX53_square_0 24 rfl rfl
theorem dksX53_square_2 : cX53_square.data.toList.drop 47 = dktX53_square_2 := dk_seg dksX53_square_1 23 rfl rfl
theorem dX53_square_0 : decode cX53_square 0 = .ok (.aload_n 0, 1) := dk_42 (dk_at dksX53_square_0 0 rfl rfl)
theorem dX53_square_1 : decode cX53_square 1 = .ok (.getfield 7, 3) := dk_180 0 7 (dk_at dksX53_square_0 1 rfl rfl)
theorem dX53_square_4 : decode cX53_square 4 = .ok (.iload_n 1, 1) := dk_27 (dk_at dksX53_square_0 4 rfl rfl)
theorem dX53_square_5 : decode cX53_square 5 = .ok (.iaload, 1) := dk_46 (dk_at dksX53_square_0 5 rfl rfl)
theorem dX53_square_6 : decode cX53_square 6 = .ok (.aload_n 0, 1) := dk_42 (dk_at dksX53_square_0 6 rfl rfl)
theorem dX53_square_7 : decode cX53_square 7 = .ok (.getfield 7, 3) := dk_180 0 7 (dk_at dksX53_square_0 7 rfl rfl)
theorem dX53_square_10 : decode cX53_square 10 = .ok (.iload_n 2, 1) := dk_28 (dk_at dksX53_square_0 10 rfl rfl)
theorem dX53_square_11 : decode cX53_square 11 = .ok (.iaload, 1) := dk_46 (dk_at dksX53_square_0 11 rfl rfl)
theorem dX53_square_12 : decode cX53_square 12 = .ok (.isub, 1) := dk_100 (dk_at dksX53_square_0 12 rfl rfl)
theorem dX53_square_13 : decode cX53_square 13 = .ok (.aload_n 0, 1) := dk_42 (dk_at dksX53_square_0 13 rfl rfl)
theorem dX53_square_14 : decode cX53_square 14 = .ok (.getfield 7, 3) := dk_180 0 7 (dk_at dksX53_square_0 14 rfl rfl)
theorem dX53_square_17 : decode cX53_square 17 = .ok (.iload_n 1, 1) := dk_27 (dk_at dksX53_square_0 17 rfl rfl)
theorem dX53_square_18 : decode cX53_square 18 = .ok (.iaload, 1) := dk_46 (dk_at dksX53_square_0 18 rfl rfl)
theorem dX53_square_19 : decode cX53_square 19 = .ok (.aload_n 0, 1) := dk_42 (dk_at dksX53_square_0 19 rfl rfl)
theorem dX53_square_20 : decode cX53_square 20 = .ok (.getfield 7, 3) := dk_180 0 7 (dk_at dksX53_square_0 20 rfl rfl)
theorem dX53_square_23 : decode cX53_square 23 = .ok (.iload_n 2, 1) := dk_28 (dk_at dksX53_square_0 23 rfl rfl)
theorem dX53_square_24 : decode cX53_square 24 = .ok (.iaload, 1) := dk_46 (dk_at dksX53_square_1 0 rfl rfl)
theorem dX53_square_25 : decode cX53_square 25 = .ok (.isub, 1) := dk_100 (dk_at dksX53_square_1 1 rfl rfl)
theorem dX53_square_26 : decode cX53_square 26 = .ok (.imul, 1) := dk_104 (dk_at dksX53_square_1 2 rfl rfl)
theorem dX53_square_27 : decode cX53_square 27 = .ok (.aload_n 0, 1) := dk_42 (dk_at dksX53_square_1 3 rfl rfl)
theorem dX53_square_28 : decode cX53_square 28 = .ok (.getfield 13, 3) := dk_180 0 13 (dk_at dksX53_square_1 4 rfl rfl)
theorem dX53_square_31 : decode cX53_square 31 = .ok (.iload_n 1, 1) := dk_27 (dk_at dksX53_square_1 7 rfl rfl)
theorem dX53_square_32 : decode cX53_square 32 = .ok (.iaload, 1) := dk_46 (dk_at dksX53_square_1 8 rfl rfl)
theorem dX53_square_33 : decode cX53_square 33 = .ok (.aload_n 0, 1) := dk_42 (dk_at dksX53_square_1 9 rfl rfl)
theorem dX53_square_34 : decode cX53_square 34 = .ok (.getfield 13, 3) := dk_180 0 13 (dk_at dksX53_square_1 10 rfl rfl)
theorem dX53_square_37 : decode cX53_square 37 = .ok (.iload_n 2, 1) := dk_28 (dk_at dksX53_square_1 13 rfl rfl)
theorem dX53_square_38 : decode cX53_square 38 = .ok (.iaload, 1) := dk_46 (dk_at dksX53_square_1 14 rfl rfl)
theorem dX53_square_39 : decode cX53_square 39 = .ok (.isub, 1) := dk_100 (dk_at dksX53_square_1 15 rfl rfl)
theorem dX53_square_40 : decode cX53_square 40 = .ok (.aload_n 0, 1) := dk_42 (dk_at dksX53_square_1 16 rfl rfl)
theorem dX53_square_41 : decode cX53_square 41 = .ok (.getfield 13, 3) := dk_180 0 13 (dk_at dksX53_square_1 17 rfl rfl)
theorem dX53_square_44 : decode cX53_square 44 = .ok (.iload_n 1, 1) := dk_27 (dk_at dksX53_square_1 20 rfl rfl)
theorem dX53_square_45 : decode cX53_square 45 = .ok (.iaload, 1) := dk_46 (dk_at dksX53_square_1 21 rfl rfl)
theorem dX53_square_46 : decode cX53_square 46 = .ok (.aload_n 0, 1) := dk_42 (dk_at dksX53_square_1 22 rfl rfl)
theorem dX53_square_47 : decode cX53_square 47 = .ok (.getfield 13, 3) := dk_180 0 13 (dk_at dksX53_square_2 0 rfl rfl)
theorem dX53_square_50 : decode cX53_square 50 = .ok (.iload_n 2, 1) := dk_28 (dk_at dksX53_square_2 3 rfl rfl)
theorem dX53_square_51 : decode cX53_square 51 = .ok (.iaload, 1) := dk_46 (dk_at dksX53_square_2 4 rfl rfl)
theorem dX53_square_52 : decode cX53_square 52 = .ok (.isub, 1) := dk_100 (dk_at dksX53_square_2 5 rfl rfl)
theorem dX53_square_53 : decode cX53_square 53 = .ok (.imul, 1) := dk_104 (dk_at dksX53_square_2 6 rfl rfl)
theorem dX53_square_54 : decode cX53_square 54 = .ok (.iadd, 1) := dk_96 (dk_at dksX53_square_2 7 rfl rfl)
theorem dX53_square_55 : decode cX53_square 55 = .ok (.ireturn, 1) := dk_172 (dk_at dksX53_square_2 8 rfl rfl)
abbrev cX53_isTooMuch : ByteArray := prog_58_method_13_code
def yX53_isTooMuch : MethodName := ⟨RX53, "isTooMuch", "([II)Z"⟩
def dkwX53_isTooMuch_2 : List UInt8 := [132, 5, 1, 167, 255, 212, 33, 42, 180, 0, 42, 28, 47, 148, 158, 0, 7, 4, 167, 0, 4, 3, 172]
abbrev dktX53_isTooMuch_2 : List UInt8 := dkwX53_isTooMuch_2 ++ []
def dkwX53_isTooMuch_1 : List UInt8 := [180, 0, 19, 21, 5, 46, 28, 160, 0, 13, 42, 180, 0, 22, 21, 5, 47, 167, 0, 4, 9, 97, 66]
abbrev dktX53_isTooMuch_1 : List UInt8 := dkwX53_isTooMuch_1 ++ dktX53_isTooMuch_2
def dkwX53_isTooMuch_0 : List UInt8 := [9, 66, 3, 54, 5, 21, 5, 42, 180, 0, 81, 162, 0, 41, 33, 43, 21, 5, 46, 155, 0, 24, 42]
abbrev dktX53_isTooMuch_0 : List UInt8 := dkwX53_isTooMuch_0 ++ dktX53_isTooMuch_1
theorem dksX53_isTooMuch_0 : cX53_isTooMuch.data.toList.drop 0 = dktX53_isTooMuch_0 := by decide +kernel
theorem dksX53_isTooMuch_1 : cX53_isTooMuch.data.toList.drop 23 = dktX53_isTooMuch_1 := dk_seg dksX53_isTooMuch_0 23 rfl rfl
theorem dksX53_isTooMuch_2 : cX53_isTooMuch.data.toList.drop 46 = dktX53_isTooMuch_2 := dk_seg dksX53_isTooMuch_1 23 rfl rfl
theorem dX53_isTooMuch_0 : decode cX53_isTooMuch 0 = .ok (.lconst 0, 1) := dk_9 (dk_at dksX53_isTooMuch_0 0 rfl rfl)
theorem dX53_isTooMuch_1 : decode cX53_isTooMuch 1 = .ok (.lstore_n 3, 1) := dk_66 (dk_at dksX53_isTooMuch_0 1 rfl rfl)
theorem dX53_isTooMuch_2 : decode cX53_isTooMuch 2 = .ok (.iconst 0, 1) := dk_3 (dk_at dksX53_isTooMuch_0 2 rfl rfl)
theorem dX53_isTooMuch_3 : decode cX53_isTooMuch 3 = .ok (.istore 5, 2) := dk_54 5 (dk_at dksX53_isTooMuch_0 3 rfl rfl)
theorem dX53_isTooMuch_5 : decode cX53_isTooMuch 5 = .ok (.iload 5, 2) := dk_21 5 (dk_at dksX53_isTooMuch_0 5 rfl rfl)
theorem dX53_isTooMuch_7 : decode cX53_isTooMuch 7 = .ok (.aload_n 0, 1) := dk_42 (dk_at dksX53_isTooMuch_0 7 rfl rfl)
theorem dX53_isTooMuch_8 : decode cX53_isTooMuch 8 = .ok (.getfield 81, 3) := dk_180 0 81 (dk_at dksX53_isTooMuch_0 8 rfl rfl)
theorem dX53_isTooMuch_11 : decode cX53_isTooMuch 11 = .ok (.if_icmp .ge 41, 3) := dk_162 0 41 (dk_at dksX53_isTooMuch_0 11 rfl rfl)
theorem dX53_isTooMuch_14 : decode cX53_isTooMuch 14 = .ok (.lload_n 3, 1) := dk_33 (dk_at dksX53_isTooMuch_0 14 rfl rfl)
theorem dX53_isTooMuch_15 : decode cX53_isTooMuch 15 = .ok (.aload_n 1, 1) := dk_43 (dk_at dksX53_isTooMuch_0 15 rfl rfl)
theorem dX53_isTooMuch_16 : decode cX53_isTooMuch 16 = .ok (.iload 5, 2) := dk_21 5 (dk_at dksX53_isTooMuch_0 16 rfl rfl)
theorem dX53_isTooMuch_18 : decode cX53_isTooMuch 18 = .ok (.iaload, 1) := dk_46 (dk_at dksX53_isTooMuch_0 18 rfl rfl)
theorem dX53_isTooMuch_19 : decode cX53_isTooMuch 19 = .ok (.ifCond .lt 24, 3) := dk_155 0 24 (dk_at dksX53_isTooMuch_0 19 rfl rfl)
theorem dX53_isTooMuch_22 : decode cX53_isTooMuch 22 = .ok (.aload_n 0, 1) := dk_42 (dk_at dksX53_isTooMuch_0 22 rfl rfl)
theorem dX53_isTooMuch_23 : decode cX53_isTooMuch 23 = .ok (.getfield 19, 3) := dk_180 0 19 (dk_at dksX53_isTooMuch_1 0 rfl rfl)
theorem dX53_isTooMuch_26 : decode cX53_isTooMuch 26 = .ok (.iload 5, 2) := dk_21 5 (dk_at dksX53_isTooMuch_1 3 rfl rfl)
theorem dX53_isTooMuch_28 : decode cX53_isTooMuch 28 = .ok (.iaload, 1) := dk_46 (dk_at dksX53_isTooMuch_1 5 rfl rfl)
theorem dX53_isTooMuch_29 : decode cX53_isTooMuch 29 = .ok (.iload_n 2, 1) := dk_28 (dk_at dksX53_isTooMuch_1 6 rfl rfl)
theorem dX53_isTooMuch_30 : decode cX53_isTooMuch 30 = .ok (.if_icmp .ne 13, 3) := dk_160 0 13 (dk_at dksX53_isTooMuch_1 7 rfl rfl)
theorem dX53_isTooMuch_33 : decode cX53_isTooMuch 33 = .ok (.aload_n 0, 1) := dk_42 (dk_at dksX53_isTooMuch_1 10 rfl rfl)
theorem dX53_isTooMuch_34 : decode cX53_isTooMuch 34 = .ok (.getfield 22, 3) := dk_180 0 22 (dk_at dksX53_isTooMuch_1 11 rfl rfl)
theorem dX53_isTooMuch_37 : decode cX53_isTooMuch 37 = .ok (.iload 5, 2) := dk_21 5 (dk_at dksX53_isTooMuch_1 14 rfl rfl)
theorem dX53_isTooMuch_39 : decode cX53_isTooMuch 39 = .ok (.laload, 1) := dk_47 (dk_at dksX53_isTooMuch_1 16 rfl rfl)
theorem dX53_isTooMuch_40 : decode cX53_isTooMuch 40 = .ok (.goto 4, 3) := dk_167 0 4 (dk_at dksX53_isTooMuch_1 17 rfl rfl)
theorem dX53_isTooMuch_43 : decode cX53_isTooMuch 43 = .ok (.lconst 0, 1) := dk_9 (dk_at dksX53_isTooMuch_1 20 rfl rfl)
theorem dX53_isTooMuch_44 : decode cX53_isTooMuch 44 = .ok (.ladd, 1) := dk_97 (dk_at dksX53_isTooMuch_1 21 rfl rfl)
theorem dX53_isTooMuch_45 : decode cX53_isTooMuch 45 = .ok (.lstore_n 3, 1) := dk_66 (dk_at dksX53_isTooMuch_1 22 rfl rfl)
theorem dX53_isTooMuch_46 : decode cX53_isTooMuch 46 = .ok (.iinc 5 1, 3) := dk_132 5 1 (dk_at dksX53_isTooMuch_2 0 rfl rfl)
theorem dX53_isTooMuch_49 : decode cX53_isTooMuch 49 = .ok (.goto (-44), 3) := dk_167 255 212 (dk_at dksX53_isTooMuch_2 3 rfl rfl)
theorem dX53_isTooMuch_52 : decode cX53_isTooMuch 52 = .ok (.lload_n 3, 1) := dk_33 (dk_at dksX53_isTooMuch_2 6 rfl rfl)
theorem dX53_isTooMuch_53 : decode cX53_isTooMuch 53 = .ok (.aload_n 0, 1) := dk_42 (dk_at dksX53_isTooMuch_2 7 rfl rfl)
theorem dX53_isTooMuch_54 : decode cX53_isTooMuch 54 = .ok (.getfield 42, 3) := dk_180 0 42 (dk_at dksX53_isTooMuch_2 8 rfl rfl)
theorem dX53_isTooMuch_57 : decode cX53_isTooMuch 57 = .ok (.iload_n 2, 1) := dk_28 (dk_at dksX53_isTooMuch_2 11 rfl rfl)
theorem dX53_isTooMuch_58 : decode cX53_isTooMuch 58 = .ok (.laload, 1) := dk_47 (dk_at dksX53_isTooMuch_2 12 rfl rfl)
theorem dX53_isTooMuch_59 : decode cX53_isTooMuch 59 = .ok (.lcmp, 1) := dk_148 (dk_at dksX53_isTooMuch_2 13 rfl rfl)
theorem dX53_isTooMuch_60 : decode cX53_isTooMuch 60 = .ok (.ifCond .le 7, 3) := dk_158 0 7 (dk_at dksX53_isTooMuch_2 14 rfl rfl)
theorem dX53_isTooMuch_63 : decode cX53_isTooMuch 63 = .ok (.iconst 1, 1) := dk_4 (dk_at dksX53_isTooMuch_2 17 rfl rfl)
theorem dX53_isTooMuch_64 : decode cX53_isTooMuch 64 = .ok (.goto 4, 3) := dk_167 0 4 (dk_at dksX53_isTooMuch_2 18 rfl rfl)
theorem dX53_isTooMuch_67 : decode cX53_isTooMuch 67 = .ok (.iconst 0, 1) := dk_3 (dk_at dksX53_isTooMuch_2 21 rfl rfl)
theorem dX53_isTooMuch_68 : decode cX53_isTooMuch 68 = .ok (.ireturn, 1) := dk_172 (dk_at dksX53_isTooMuch_2 22 rfl rfl)
abbrev cX53_needed : ByteArray := prog_58_method_14_code
def yX53_needed : MethodName := ⟨RX53, "needed", "([II)J"⟩
def dkwX53_needed_3 : List UInt8 := [20, 0, 108, 97, 20, 0, 110, 109, 55, 7, 22, 7, 33, 148, 158, 0, 8, 22, 7, 167, 0, 4, 33, 173]
abbrev dktX53_needed_3 : List UInt8 := dkwX53_needed_3 ++ []
def dkwX53_needed_2 : List UInt8 := [158, 0, 13, 42, 180, 0, 26, 21, 7, 47, 167, 0, 4, 33, 66, 132, 7, 1, 167, 255, 200, 22, 5]
abbrev dktX53_needed_2 : List UInt8 := dkwX53_needed_2 ++ dktX53_needed_3
def dkwX53_needed_1 : List UInt8 := [160, 0, 39, 22, 5, 42, 180, 0, 26, 21, 7, 47, 97, 55, 5, 42, 180, 0, 26, 21, 7, 47, 33, 148]
abbrev dktX53_needed_1 : List UInt8 := dkwX53_needed_1 ++ dktX53_needed_2
def dkwX53_needed_0 : List UInt8 := [9, 66, 9, 55, 5, 3, 54, 7, 21, 7, 42, 180, 0, 81, 162, 0, 53, 43, 21, 7, 46, 28]
abbrev dktX53_needed_0 : List UInt8 := dkwX53_needed_0 ++ dktX53_needed_1
theorem dksX53_needed_0 : cX53_needed.data.toList.drop 0 = dktX53_needed_0 := by decide +kernel
theorem dksX53_needed_1 : cX53_needed.data.toList.drop 22 = dktX53_needed_1 := dk_seg dksX53_needed_0 22 rfl rfl
theorem dksX53_needed_2 : cX53_needed.data.toList.drop 46 = dktX53_needed_2 := dk_seg dksX53_needed_1 24 rfl rfl
theorem dksX53_needed_3 : cX53_needed.data.toList.drop 69 = dktX53_needed_3 := dk_seg dksX53_needed_2 23 rfl rfl
theorem dX53_needed_0 : decode cX53_needed 0 = .ok (.lconst 0, 1) := dk_9 (dk_at dksX53_needed_0 0 rfl rfl)
theorem dX53_needed_1 : decode cX53_needed 1 = .ok (.lstore_n 3, 1) := dk_66 (dk_at dksX53_needed_0 1 rfl rfl)
theorem dX53_needed_2 : decode cX53_needed 2 = .ok (.lconst 0, 1) := dk_9 (dk_at dksX53_needed_0 2 rfl rfl)
theorem dX53_needed_3 : decode cX53_needed 3 = .ok (.lstore 5, 2) := dk_55 5 (dk_at dksX53_needed_0 3 rfl rfl)
theorem dX53_needed_5 : decode cX53_needed 5 = .ok (.iconst 0, 1) := dk_3 (dk_at dksX53_needed_0 5 rfl rfl)
theorem dX53_needed_6 : decode cX53_needed 6 = .ok (.istore 7, 2) := dk_54 7 (dk_at dksX53_needed_0 6 rfl rfl)
theorem dX53_needed_8 : decode cX53_needed 8 = .ok (.iload 7, 2) := dk_21 7 (dk_at dksX53_needed_0 8 rfl rfl)
theorem dX53_needed_10 : decode cX53_needed 10 = .ok (.aload_n 0, 1) := dk_42 (dk_at dksX53_needed_0 10 rfl rfl)
theorem dX53_needed_11 : decode cX53_needed 11 = .ok (.getfield 81, 3) := dk_180 0 81 (dk_at dksX53_needed_0 11 rfl rfl)
theorem dX53_needed_14 : decode cX53_needed 14 = .ok (.if_icmp .ge 53, 3) := dk_162 0 53 (dk_at dksX53_needed_0 14 rfl rfl)
theorem dX53_needed_17 : decode cX53_needed 17 = .ok (.aload_n 1, 1) := dk_43 (dk_at dksX53_needed_0 17 rfl rfl)
theorem dX53_needed_18 : decode cX53_needed 18 = .ok (.iload 7, 2) := dk_21 7 (dk_at dksX53_needed_0 18 rfl rfl)
theorem dX53_needed_20 : decode cX53_needed 20 = .ok (.iaload, 1) := dk_46 (dk_at dksX53_needed_0 20 rfl rfl)
theorem dX53_needed_21 : decode cX53_needed 21 = .ok (.iload_n 2, 1) := dk_28 (dk_at dksX53_needed_0 21 rfl rfl)
theorem dX53_needed_22 : decode cX53_needed 22 = .ok (.if_icmp .ne 39, 3) := dk_160 0 39 (dk_at dksX53_needed_1 0 rfl rfl)
theorem dX53_needed_25 : decode cX53_needed 25 = .ok (.lload 5, 2) := dk_22 5 (dk_at dksX53_needed_1 3 rfl rfl)
theorem dX53_needed_27 : decode cX53_needed 27 = .ok (.aload_n 0, 1) := dk_42 (dk_at dksX53_needed_1 5 rfl rfl)
theorem dX53_needed_28 : decode cX53_needed 28 = .ok (.getfield 26, 3) := dk_180 0 26 (dk_at dksX53_needed_1 6 rfl rfl)
theorem dX53_needed_31 : decode cX53_needed 31 = .ok (.iload 7, 2) := dk_21 7 (dk_at dksX53_needed_1 9 rfl rfl)
theorem dX53_needed_33 : decode cX53_needed 33 = .ok (.laload, 1) := dk_47 (dk_at dksX53_needed_1 11 rfl rfl)
theorem dX53_needed_34 : decode cX53_needed 34 = .ok (.ladd, 1) := dk_97 (dk_at dksX53_needed_1 12 rfl rfl)
theorem dX53_needed_35 : decode cX53_needed 35 = .ok (.lstore 5, 2) := dk_55 5 (dk_at dksX53_needed_1 13 rfl rfl)
theorem dX53_needed_37 : decode cX53_needed 37 = .ok (.aload_n 0, 1) := dk_42 (dk_at dksX53_needed_1 15 rfl rfl)
theorem dX53_needed_38 : decode cX53_needed 38 = .ok (.getfield 26, 3) := dk_180 0 26 (dk_at dksX53_needed_1 16 rfl rfl)
theorem dX53_needed_41 : decode cX53_needed 41 = .ok (.iload 7, 2) := dk_21 7 (dk_at dksX53_needed_1 19 rfl rfl)
theorem dX53_needed_43 : decode cX53_needed 43 = .ok (.laload, 1) := dk_47 (dk_at dksX53_needed_1 21 rfl rfl)
theorem dX53_needed_44 : decode cX53_needed 44 = .ok (.lload_n 3, 1) := dk_33 (dk_at dksX53_needed_1 22 rfl rfl)
theorem dX53_needed_45 : decode cX53_needed 45 = .ok (.lcmp, 1) := dk_148 (dk_at dksX53_needed_1 23 rfl rfl)
theorem dX53_needed_46 : decode cX53_needed 46 = .ok (.ifCond .le 13, 3) := dk_158 0 13 (dk_at dksX53_needed_2 0 rfl rfl)
theorem dX53_needed_49 : decode cX53_needed 49 = .ok (.aload_n 0, 1) := dk_42 (dk_at dksX53_needed_2 3 rfl rfl)
theorem dX53_needed_50 : decode cX53_needed 50 = .ok (.getfield 26, 3) := dk_180 0 26 (dk_at dksX53_needed_2 4 rfl rfl)
theorem dX53_needed_53 : decode cX53_needed 53 = .ok (.iload 7, 2) := dk_21 7 (dk_at dksX53_needed_2 7 rfl rfl)
theorem dX53_needed_55 : decode cX53_needed 55 = .ok (.laload, 1) := dk_47 (dk_at dksX53_needed_2 9 rfl rfl)
theorem dX53_needed_56 : decode cX53_needed 56 = .ok (.goto 4, 3) := dk_167 0 4 (dk_at dksX53_needed_2 10 rfl rfl)
theorem dX53_needed_59 : decode cX53_needed 59 = .ok (.lload_n 3, 1) := dk_33 (dk_at dksX53_needed_2 13 rfl rfl)
theorem dX53_needed_60 : decode cX53_needed 60 = .ok (.lstore_n 3, 1) := dk_66 (dk_at dksX53_needed_2 14 rfl rfl)
theorem dX53_needed_61 : decode cX53_needed 61 = .ok (.iinc 7 1, 3) := dk_132 7 1 (dk_at dksX53_needed_2 15 rfl rfl)
theorem dX53_needed_64 : decode cX53_needed 64 = .ok (.goto (-56), 3) := dk_167 255 200 (dk_at dksX53_needed_2 18 rfl rfl)
theorem dX53_needed_67 : decode cX53_needed 67 = .ok (.lload 5, 2) := dk_22 5 (dk_at dksX53_needed_2 21 rfl rfl)
theorem dX53_needed_69 : decode cX53_needed 69 = .ok (.ldc2_w 108, 3) := dk_20 0 108 (dk_at dksX53_needed_3 0 rfl rfl)
theorem dX53_needed_72 : decode cX53_needed 72 = .ok (.ladd, 1) := dk_97 (dk_at dksX53_needed_3 3 rfl rfl)
theorem dX53_needed_73 : decode cX53_needed 73 = .ok (.ldc2_w 110, 3) := dk_20 0 110 (dk_at dksX53_needed_3 4 rfl rfl)
theorem dX53_needed_76 : decode cX53_needed 76 = .ok (.ldiv, 1) := dk_109 (dk_at dksX53_needed_3 7 rfl rfl)
theorem dX53_needed_77 : decode cX53_needed 77 = .ok (.lstore 7, 2) := dk_55 7 (dk_at dksX53_needed_3 8 rfl rfl)
theorem dX53_needed_79 : decode cX53_needed 79 = .ok (.lload 7, 2) := dk_22 7 (dk_at dksX53_needed_3 10 rfl rfl)
theorem dX53_needed_81 : decode cX53_needed 81 = .ok (.lload_n 3, 1) := dk_33 (dk_at dksX53_needed_3 12 rfl rfl)
theorem dX53_needed_82 : decode cX53_needed 82 = .ok (.lcmp, 1) := dk_148 (dk_at dksX53_needed_3 13 rfl rfl)
theorem dX53_needed_83 : decode cX53_needed 83 = .ok (.ifCond .le 8, 3) := dk_158 0 8 (dk_at dksX53_needed_3 14 rfl rfl)
theorem dX53_needed_86 : decode cX53_needed 86 = .ok (.lload 7, 2) := dk_22 7 (dk_at dksX53_needed_3 17 rfl rfl)
theorem dX53_needed_88 : decode cX53_needed 88 = .ok (.goto 4, 3) := dk_167 0 4 (dk_at dksX53_needed_3 19 rfl rfl)
theorem dX53_needed_91 : decode cX53_needed 91 = .ok (.lload_n 3, 1) := dk_33 (dk_at dksX53_needed_3 22 rfl rfl)
theorem dX53_needed_92 : decode cX53_needed 92 = .ok (.lreturn, 1) := dk_173 (dk_at dksX53_needed_3 23 rfl rfl)
abbrev cX53_bring : ByteArray := prog_58_method_18_code
def yX53_bring : MethodName := ⟨RX53, "bring", "(II)V"⟩
def dkwX53_bring_1 : List UInt8 := [42, 180, 0, 36, 27, 42, 180, 0, 133, 79, 42, 180, 0, 33, 27, 28, 79, 177]
abbrev dktX53_bring_1 : List UInt8 := dkwX53_bring_1 ++ []
def dkwX53_bring_0 : List UInt8 := [28, 42, 180, 0, 33, 27, 46, 159, 0, 27, 28, 155, 0, 23, 42, 89, 180, 0, 133, 4, 96, 181, 0, 133]
abbrev dktX53_bring_0 : List UInt8 := dkwX53_bring_0 ++ dktX53_bring_1
theorem dksX53_bring_0 : cX53_bring.data.toList.drop 0 = dktX53_bring_0 := by decide +kernel
theorem dksX53_bring_1 : cX53_bring.data.toList.drop 24 = dktX53_bring_1 := dk_seg dksX53_bring_0 24 rfl rfl
theorem dX53_bring_0 : decode cX53_bring 0 = .ok (.iload_n 2, 1) := dk_28 (dk_at dksX53_bring_0 0 rfl rfl)
theorem dX53_bring_1 : decode cX53_bring 1 = .ok (.aload_n 0, 1) := dk_42 (dk_at dksX53_bring_0 1 rfl rfl)
theorem dX53_bring_2 : decode cX53_bring 2 = .ok (.getfield 33, 3) := dk_180 0 33 (dk_at dksX53_bring_0 2 rfl rfl)
theorem dX53_bring_5 : decode cX53_bring 5 = .ok (.iload_n 1, 1) := dk_27 (dk_at dksX53_bring_0 5 rfl rfl)
theorem dX53_bring_6 : decode cX53_bring 6 = .ok (.iaload, 1) := dk_46 (dk_at dksX53_bring_0 6 rfl rfl)
theorem dX53_bring_7 : decode cX53_bring 7 = .ok (.if_icmp .eq 27, 3) := dk_159 0 27 (dk_at dksX53_bring_0 7 rfl rfl)
theorem dX53_bring_10 : decode cX53_bring 10 = .ok (.iload_n 2, 1) := dk_28 (dk_at dksX53_bring_0 10 rfl rfl)
theorem dX53_bring_11 : decode cX53_bring 11 = .ok (.ifCond .lt 23, 3) := dk_155 0 23 (dk_at dksX53_bring_0 11 rfl rfl)
theorem dX53_bring_14 : decode cX53_bring 14 = .ok (.aload_n 0, 1) := dk_42 (dk_at dksX53_bring_0 14 rfl rfl)
theorem dX53_bring_15 : decode cX53_bring 15 = .ok (.dup, 1) := dk_89 (dk_at dksX53_bring_0 15 rfl rfl)
theorem dX53_bring_16 : decode cX53_bring 16 = .ok (.getfield 133, 3) := dk_180 0 133 (dk_at dksX53_bring_0 16 rfl rfl)
theorem dX53_bring_19 : decode cX53_bring 19 = .ok (.iconst 1, 1) := dk_4 (dk_at dksX53_bring_0 19 rfl rfl)
theorem dX53_bring_20 : decode cX53_bring 20 = .ok (.iadd, 1) := dk_96 (dk_at dksX53_bring_0 20 rfl rfl)
theorem dX53_bring_21 : decode cX53_bring 21 = .ok (.putfield 133, 3) := dk_181 0 133 (dk_at dksX53_bring_0 21 rfl rfl)
theorem dX53_bring_24 : decode cX53_bring 24 = .ok (.aload_n 0, 1) := dk_42 (dk_at dksX53_bring_1 0 rfl rfl)
theorem dX53_bring_25 : decode cX53_bring 25 = .ok (.getfield 36, 3) := dk_180 0 36 (dk_at dksX53_bring_1 1 rfl rfl)
theorem dX53_bring_28 : decode cX53_bring 28 = .ok (.iload_n 1, 1) := dk_27 (dk_at dksX53_bring_1 4 rfl rfl)
theorem dX53_bring_29 : decode cX53_bring 29 = .ok (.aload_n 0, 1) := dk_42 (dk_at dksX53_bring_1 5 rfl rfl)
theorem dX53_bring_30 : decode cX53_bring 30 = .ok (.getfield 133, 3) := dk_180 0 133 (dk_at dksX53_bring_1 6 rfl rfl)
theorem dX53_bring_33 : decode cX53_bring 33 = .ok (.iastore, 1) := dk_79 (dk_at dksX53_bring_1 9 rfl rfl)
theorem dX53_bring_34 : decode cX53_bring 34 = .ok (.aload_n 0, 1) := dk_42 (dk_at dksX53_bring_1 10 rfl rfl)
theorem dX53_bring_35 : decode cX53_bring 35 = .ok (.getfield 33, 3) := dk_180 0 33 (dk_at dksX53_bring_1 11 rfl rfl)
theorem dX53_bring_38 : decode cX53_bring 38 = .ok (.iload_n 1, 1) := dk_27 (dk_at dksX53_bring_1 14 rfl rfl)
theorem dX53_bring_39 : decode cX53_bring 39 = .ok (.iload_n 2, 1) := dk_28 (dk_at dksX53_bring_1 15 rfl rfl)
theorem dX53_bring_40 : decode cX53_bring 40 = .ok (.iastore, 1) := dk_79 (dk_at dksX53_bring_1 16 rfl rfl)
theorem dX53_bring_41 : decode cX53_bring 41 = .ok (.return_, 1) := dk_177 (dk_at dksX53_bring_1 17 rfl rfl)
abbrev cX53_kept : ByteArray := prog_58_method_16_code
def yX53_kept : MethodName := ⟨RX53, "kept", "()Z"⟩
def dkwX53_kept_0 : List UInt8 := [42, 42, 180, 0, 33, 182, 0, 124, 172]
abbrev dktX53_kept_0 : List UInt8 := dkwX53_kept_0 ++ []
theorem dksX53_kept_0 : cX53_kept.data.toList.drop 0 = dktX53_kept_0 := by decide +kernel
theorem dX53_kept_0 : decode cX53_kept 0 = .ok (.aload_n 0, 1) := dk_42 (dk_at dksX53_kept_0 0 rfl rfl)
theorem dX53_kept_1 : decode cX53_kept 1 = .ok (.aload_n 0, 1) := dk_42 (dk_at dksX53_kept_0 1 rfl rfl)
theorem dX53_kept_2 : decode cX53_kept 2 = .ok (.getfield 33, 3) := dk_180 0 33 (dk_at dksX53_kept_0 2 rfl rfl)
theorem dX53_kept_5 : decode cX53_kept 5 = .ok (.invokevirtual 124, 3) := dk_182 0 124 (dk_at dksX53_kept_0 5 rfl rfl)
theorem dX53_kept_8 : decode cX53_kept 8 = .ok (.ireturn, 1) := dk_172 (dk_at dksX53_kept_0 8 rfl rfl)
abbrev cX53_bar : ByteArray := prog_58_method_7_code
def yX53_bar : MethodName := ⟨RX53, "bar", "(III)Z"⟩
def dkwX53_bar_2 : List UInt8 := [104, 27, 96, 29, 79, 4, 172]
abbrev dktX53_bar_2 : List UInt8 := dkwX53_bar_2 ++ []
def dkwX53_bar_1 : List UInt8 := [154, 0, 5, 3, 172, 42, 180, 0, 39, 16, 6, 27, 104, 28, 96, 29, 79, 42, 180, 0, 39, 16, 6, 28]
abbrev dktX53_bar_1 : List UInt8 := dkwX53_bar_1 ++ dktX53_bar_2
def dkwX53_bar_0 : List UInt8 := [27, 184, 0, 84, 153, 0, 22, 28, 184, 0, 84, 153, 0, 15, 29, 133, 9, 20, 0, 88, 184, 0, 90]
abbrev dktX53_bar_0 : List UInt8 := dkwX53_bar_0 ++ dktX53_bar_1
theorem dksX53_bar_0 : cX53_bar.data.toList.drop 0 = dktX53_bar_0 := by decide +kernel
theorem dksX53_bar_1 : cX53_bar.data.toList.drop 23 = dktX53_bar_1 := dk_seg dksX53_bar_0 23 rfl rfl
theorem dksX53_bar_2 : cX53_bar.data.toList.drop 47 = dktX53_bar_2 := dk_seg dksX53_bar_1 24 rfl rfl
theorem dX53_bar_0 : decode cX53_bar 0 = .ok (.iload_n 1, 1) := dk_27 (dk_at dksX53_bar_0 0 rfl rfl)
theorem dX53_bar_1 : decode cX53_bar 1 = .ok (.invokestatic 84, 3) := dk_184 0 84 (dk_at dksX53_bar_0 1 rfl rfl)
theorem dX53_bar_4 : decode cX53_bar 4 = .ok (.ifCond .eq 22, 3) := dk_153 0 22 (dk_at dksX53_bar_0 4 rfl rfl)
theorem dX53_bar_7 : decode cX53_bar 7 = .ok (.iload_n 2, 1) := dk_28 (dk_at dksX53_bar_0 7 rfl rfl)
theorem dX53_bar_8 : decode cX53_bar 8 = .ok (.invokestatic 84, 3) := dk_184 0 84 (dk_at dksX53_bar_0 8 rfl rfl)
theorem dX53_bar_11 : decode cX53_bar 11 = .ok (.ifCond .eq 15, 3) := dk_153 0 15 (dk_at dksX53_bar_0 11 rfl rfl)
theorem dX53_bar_14 : decode cX53_bar 14 = .ok (.iload_n 3, 1) := dk_29 (dk_at dksX53_bar_0 14 rfl rfl)
theorem dX53_bar_15 : decode cX53_bar 15 = .ok (.i2l, 1) := dk_133 (dk_at dksX53_bar_0 15 rfl rfl)
theorem dX53_bar_16 : decode cX53_bar 16 = .ok (.lconst 0, 1) := dk_9 (dk_at dksX53_bar_0 16 rfl rfl)
theorem dX53_bar_17 : decode cX53_bar 17 = .ok (.ldc2_w 88, 3) := dk_20 0 88 (dk_at dksX53_bar_0 17 rfl rfl)
theorem dX53_bar_20 : decode cX53_bar 20 = .ok (.invokestatic 90, 3) := dk_184 0 90 (dk_at dksX53_bar_0 20 rfl rfl)
theorem dX53_bar_23 : decode cX53_bar 23 = .ok (.ifCond .ne 5, 3) := dk_154 0 5 (dk_at dksX53_bar_1 0 rfl rfl)
theorem dX53_bar_26 : decode cX53_bar 26 = .ok (.iconst 0, 1) := dk_3 (dk_at dksX53_bar_1 3 rfl rfl)
theorem dX53_bar_27 : decode cX53_bar 27 = .ok (.ireturn, 1) := dk_172 (dk_at dksX53_bar_1 4 rfl rfl)
theorem dX53_bar_28 : decode cX53_bar 28 = .ok (.aload_n 0, 1) := dk_42 (dk_at dksX53_bar_1 5 rfl rfl)
theorem dX53_bar_29 : decode cX53_bar 29 = .ok (.getfield 39, 3) := dk_180 0 39 (dk_at dksX53_bar_1 6 rfl rfl)
theorem dX53_bar_32 : decode cX53_bar 32 = .ok (.bipush 6, 2) := dk_16 6 (dk_at dksX53_bar_1 9 rfl rfl)
theorem dX53_bar_34 : decode cX53_bar 34 = .ok (.iload_n 1, 1) := dk_27 (dk_at dksX53_bar_1 11 rfl rfl)
theorem dX53_bar_35 : decode cX53_bar 35 = .ok (.imul, 1) := dk_104 (dk_at dksX53_bar_1 12 rfl rfl)
theorem dX53_bar_36 : decode cX53_bar 36 = .ok (.iload_n 2, 1) := dk_28 (dk_at dksX53_bar_1 13 rfl rfl)
theorem dX53_bar_37 : decode cX53_bar 37 = .ok (.iadd, 1) := dk_96 (dk_at dksX53_bar_1 14 rfl rfl)
theorem dX53_bar_38 : decode cX53_bar 38 = .ok (.iload_n 3, 1) := dk_29 (dk_at dksX53_bar_1 15 rfl rfl)
theorem dX53_bar_39 : decode cX53_bar 39 = .ok (.iastore, 1) := dk_79 (dk_at dksX53_bar_1 16 rfl rfl)
theorem dX53_bar_40 : decode cX53_bar 40 = .ok (.aload_n 0, 1) := dk_42 (dk_at dksX53_bar_1 17 rfl rfl)
theorem dX53_bar_41 : decode cX53_bar 41 = .ok (.getfield 39, 3) := dk_180 0 39 (dk_at dksX53_bar_1 18 rfl rfl)
theorem dX53_bar_44 : decode cX53_bar 44 = .ok (.bipush 6, 2) := dk_16 6 (dk_at dksX53_bar_1 21 rfl rfl)
theorem dX53_bar_46 : decode cX53_bar 46 = .ok (.iload_n 2, 1) := dk_28 (dk_at dksX53_bar_1 23 rfl rfl)
theorem dX53_bar_47 : decode cX53_bar 47 = .ok (.imul, 1) := dk_104 (dk_at dksX53_bar_2 0 rfl rfl)
theorem dX53_bar_48 : decode cX53_bar 48 = .ok (.iload_n 1, 1) := dk_27 (dk_at dksX53_bar_2 1 rfl rfl)
theorem dX53_bar_49 : decode cX53_bar 49 = .ok (.iadd, 1) := dk_96 (dk_at dksX53_bar_2 2 rfl rfl)
theorem dX53_bar_50 : decode cX53_bar 50 = .ok (.iload_n 3, 1) := dk_29 (dk_at dksX53_bar_2 3 rfl rfl)
theorem dX53_bar_51 : decode cX53_bar 51 = .ok (.iastore, 1) := dk_79 (dk_at dksX53_bar_2 4 rfl rfl)
theorem dX53_bar_52 : decode cX53_bar 52 = .ok (.iconst 1, 1) := dk_4 (dk_at dksX53_bar_2 5 rfl rfl)
theorem dX53_bar_53 : decode cX53_bar 53 = .ok (.ireturn, 1) := dk_172 (dk_at dksX53_bar_2 6 rfl rfl)
abbrev cX53_most : ByteArray := prog_58_method_8_code
def yX53_most : MethodName := ⟨RX53, "most", "(IJ)Z"⟩
def dkwX53_most_1 : List UInt8 := [27, 32, 80, 4, 172]
abbrev dktX53_most_1 : List UInt8 := dkwX53_most_1 ++ []
def dkwX53_most_0 : List UInt8 := [27, 184, 0, 84, 153, 0, 14, 32, 9, 20, 0, 76, 184, 0, 90, 154, 0, 5, 3, 172, 42, 180, 0, 42]
abbrev dktX53_most_0 : List UInt8 := dkwX53_most_0 ++ dktX53_most_1
theorem dksX53_most_0 : cX53_most.data.toList.drop 0 = dktX53_most_0 := by decide +kernel
theorem dksX53_most_1 : cX53_most.data.toList.drop 24 = dktX53_most_1 := dk_seg dksX53_most_0 24 rfl rfl
theorem dX53_most_0 : decode cX53_most 0 = .ok (.iload_n 1, 1) := dk_27 (dk_at dksX53_most_0 0 rfl rfl)
theorem dX53_most_1 : decode cX53_most 1 = .ok (.invokestatic 84, 3) := dk_184 0 84 (dk_at dksX53_most_0 1 rfl rfl)
theorem dX53_most_4 : decode cX53_most 4 = .ok (.ifCond .eq 14, 3) := dk_153 0 14 (dk_at dksX53_most_0 4 rfl rfl)
theorem dX53_most_7 : decode cX53_most 7 = .ok (.lload_n 2, 1) := dk_32 (dk_at dksX53_most_0 7 rfl rfl)
theorem dX53_most_8 : decode cX53_most 8 = .ok (.lconst 0, 1) := dk_9 (dk_at dksX53_most_0 8 rfl rfl)
theorem dX53_most_9 : decode cX53_most 9 = .ok (.ldc2_w 76, 3) := dk_20 0 76 (dk_at dksX53_most_0 9 rfl rfl)
theorem dX53_most_12 : decode cX53_most 12 = .ok (.invokestatic 90, 3) := dk_184 0 90 (dk_at dksX53_most_0 12 rfl rfl)
theorem dX53_most_15 : decode cX53_most 15 = .ok (.ifCond .ne 5, 3) := dk_154 0 5 (dk_at dksX53_most_0 15 rfl rfl)
theorem dX53_most_18 : decode cX53_most 18 = .ok (.iconst 0, 1) := dk_3 (dk_at dksX53_most_0 18 rfl rfl)
theorem dX53_most_19 : decode cX53_most 19 = .ok (.ireturn, 1) := dk_172 (dk_at dksX53_most_0 19 rfl rfl)
theorem dX53_most_20 : decode cX53_most 20 = .ok (.aload_n 0, 1) := dk_42 (dk_at dksX53_most_0 20 rfl rfl)
theorem dX53_most_21 : decode cX53_most 21 = .ok (.getfield 42, 3) := dk_180 0 42 (dk_at dksX53_most_0 21 rfl rfl)
theorem dX53_most_24 : decode cX53_most 24 = .ok (.iload_n 1, 1) := dk_27 (dk_at dksX53_most_1 0 rfl rfl)
theorem dX53_most_25 : decode cX53_most 25 = .ok (.lload_n 2, 1) := dk_32 (dk_at dksX53_most_1 1 rfl rfl)
theorem dX53_most_26 : decode cX53_most 26 = .ok (.lastore, 1) := dk_80 (dk_at dksX53_most_1 2 rfl rfl)
theorem dX53_most_27 : decode cX53_most 27 = .ok (.iconst 1, 1) := dk_4 (dk_at dksX53_most_1 3 rfl rfl)
theorem dX53_most_28 : decode cX53_most 28 = .ok (.ireturn, 1) := dk_172 (dk_at dksX53_most_1 4 rfl rfl)
abbrev cX53_place : ByteArray := prog_58_method_9_code
def yX53_place : MethodName := ⟨RX53, "place", "(JJJ)I"⟩
def dkwX53_place_4 : List UInt8 := [180, 0, 78, 4, 100, 172]
abbrev dktX53_place_4 : List UInt8 := dkwX53_place_4 ++ []
def dkwX53_place_3 : List UInt8 := [42, 180, 0, 16, 42, 180, 0, 78, 22, 5, 136, 79, 42, 89, 180, 0, 78, 4, 96, 181, 0, 78, 42]
abbrev dktX53_place_3 : List UInt8 := dkwX53_place_3 ++ dktX53_place_4
def dkwX53_place_2 : List UInt8 := [2, 172, 42, 180, 0, 7, 42, 180, 0, 78, 31, 136, 79, 42, 180, 0, 13, 42, 180, 0, 78, 33, 136, 79]
abbrev dktX53_place_2 : List UInt8 := dkwX53_place_2 ++ dktX53_place_3
def dkwX53_place_1 : List UInt8 := [20, 0, 94, 20, 0, 96, 184, 0, 90, 153, 0, 15, 22, 5, 9, 20, 0, 98, 184, 0, 90, 154, 0, 5]
abbrev dktX53_place_1 : List UInt8 := dkwX53_place_1 ++ dktX53_place_2
def dkwX53_place_0 : List UInt8 := [42, 180, 0, 78, 7, 159, 0, 41, 31, 20, 0, 94, 20, 0, 96, 184, 0, 90, 153, 0, 28, 33]
abbrev dktX53_place_0 : List UInt8 := dkwX53_place_0 ++ dktX53_place_1
theorem dksX53_place_0 : cX53_place.data.toList.drop 0 = dktX53_place_0 := by decide +kernel
theorem dksX53_place_1 : cX53_place.data.toList.drop 22 = dktX53_place_1 := dk_seg dksX53_place_0 22 rfl rfl
theorem dksX53_place_2 : cX53_place.data.toList.drop 46 = dktX53_place_2 := dk_seg dksX53_place_1 24 rfl rfl
theorem dksX53_place_3 : cX53_place.data.toList.drop 70 = dktX53_place_3 := dk_seg dksX53_place_2 24 rfl rfl
theorem dksX53_place_4 : cX53_place.data.toList.drop 93 = dktX53_place_4 := dk_seg dksX53_place_3 23 rfl rfl
theorem dX53_place_0 : decode cX53_place 0 = .ok (.aload_n 0, 1) := dk_42 (dk_at dksX53_place_0 0 rfl rfl)
theorem dX53_place_1 : decode cX53_place 1 = .ok (.getfield 78, 3) := dk_180 0 78 (dk_at dksX53_place_0 1 rfl rfl)
theorem dX53_place_4 : decode cX53_place 4 = .ok (.iconst 4, 1) := dk_7 (dk_at dksX53_place_0 4 rfl rfl)
theorem dX53_place_5 : decode cX53_place 5 = .ok (.if_icmp .eq 41, 3) := dk_159 0 41 (dk_at dksX53_place_0 5 rfl rfl)
theorem dX53_place_8 : decode cX53_place 8 = .ok (.lload_n 1, 1) := dk_31 (dk_at dksX53_place_0 8 rfl rfl)
theorem dX53_place_9 : decode cX53_place 9 = .ok (.ldc2_w 94, 3) := dk_20 0 94 (dk_at dksX53_place_0 9 rfl rfl)
theorem dX53_place_12 : decode cX53_place 12 = .ok (.ldc2_w 96, 3) := dk_20 0 96 (dk_at dksX53_place_0 12 rfl rfl)
theorem dX53_place_15 : decode cX53_place 15 = .ok (.invokestatic 90, 3) := dk_184 0 90 (dk_at dksX53_place_0 15 rfl rfl)
theorem dX53_place_18 : decode cX53_place 18 = .ok (.ifCond .eq 28, 3) := dk_153 0 28 (dk_at dksX53_place_0 18 rfl rfl)
theorem dX53_place_21 : decode cX53_place 21 = .ok (.lload_n 3, 1) := dk_33 (dk_at dksX53_place_0 21 rfl rfl)
theorem dX53_place_22 : decode cX53_place 22 = .ok (.ldc2_w 94, 3) := dk_20 0 94 (dk_at dksX53_place_1 0 rfl rfl)
theorem dX53_place_25 : decode cX53_place 25 = .ok (.ldc2_w 96, 3) := dk_20 0 96 (dk_at dksX53_place_1 3 rfl rfl)
theorem dX53_place_28 : decode cX53_place 28 = .ok (.invokestatic 90, 3) := dk_184 0 90 (dk_at dksX53_place_1 6 rfl rfl)
theorem dX53_place_31 : decode cX53_place 31 = .ok (.ifCond .eq 15, 3) := dk_153 0 15 (dk_at dksX53_place_1 9 rfl rfl)
theorem dX53_place_34 : decode cX53_place 34 = .ok (.lload 5, 2) := dk_22 5 (dk_at dksX53_place_1 12 rfl rfl)
theorem dX53_place_36 : decode cX53_place 36 = .ok (.lconst 0, 1) := dk_9 (dk_at dksX53_place_1 14 rfl rfl)
theorem dX53_place_37 : decode cX53_place 37 = .ok (.ldc2_w 98, 3) := dk_20 0 98 (dk_at dksX53_place_1 15 rfl rfl)
theorem dX53_place_40 : decode cX53_place 40 = .ok (.invokestatic 90, 3) := dk_184 0 90 (dk_at dksX53_place_1 18 rfl rfl)
theorem dX53_place_43 : decode cX53_place 43 = .ok (.ifCond .ne 5, 3) := dk_154 0 5 (dk_at dksX53_place_1 21 rfl rfl)
theorem dX53_place_46 : decode cX53_place 46 = .ok (.iconst (-1), 1) := dk_2 (dk_at dksX53_place_2 0 rfl rfl)
theorem dX53_place_47 : decode cX53_place 47 = .ok (.ireturn, 1) := dk_172 (dk_at dksX53_place_2 1 rfl rfl)
theorem dX53_place_48 : decode cX53_place 48 = .ok (.aload_n 0, 1) := dk_42 (dk_at dksX53_place_2 2 rfl rfl)
theorem dX53_place_49 : decode cX53_place 49 = .ok (.getfield 7, 3) := dk_180 0 7 (dk_at dksX53_place_2 3 rfl rfl)
theorem dX53_place_52 : decode cX53_place 52 = .ok (.aload_n 0, 1) := dk_42 (dk_at dksX53_place_2 6 rfl rfl)
theorem dX53_place_53 : decode cX53_place 53 = .ok (.getfield 78, 3) := dk_180 0 78 (dk_at dksX53_place_2 7 rfl rfl)
theorem dX53_place_56 : decode cX53_place 56 = .ok (.lload_n 1, 1) := dk_31 (dk_at dksX53_place_2 10 rfl rfl)
theorem dX53_place_57 : decode cX53_place 57 = .ok (.l2i, 1) := dk_136 (dk_at dksX53_place_2 11 rfl rfl)
theorem dX53_place_58 : decode cX53_place 58 = .ok (.iastore, 1) := dk_79 (dk_at dksX53_place_2 12 rfl rfl)
theorem dX53_place_59 : decode cX53_place 59 = .ok (.aload_n 0, 1) := dk_42 (dk_at dksX53_place_2 13 rfl rfl)
theorem dX53_place_60 : decode cX53_place 60 = .ok (.getfield 13, 3) := dk_180 0 13 (dk_at dksX53_place_2 14 rfl rfl)
theorem dX53_place_63 : decode cX53_place 63 = .ok (.aload_n 0, 1) := dk_42 (dk_at dksX53_place_2 17 rfl rfl)
theorem dX53_place_64 : decode cX53_place 64 = .ok (.getfield 78, 3) := dk_180 0 78 (dk_at dksX53_place_2 18 rfl rfl)
theorem dX53_place_67 : decode cX53_place 67 = .ok (.lload_n 3, 1) := dk_33 (dk_at dksX53_place_2 21 rfl rfl)
theorem dX53_place_68 : decode cX53_place 68 = .ok (.l2i, 1) := dk_136 (dk_at dksX53_place_2 22 rfl rfl)
theorem dX53_place_69 : decode cX53_place 69 = .ok (.iastore, 1) := dk_79 (dk_at dksX53_place_2 23 rfl rfl)
theorem dX53_place_70 : decode cX53_place 70 = .ok (.aload_n 0, 1) := dk_42 (dk_at dksX53_place_3 0 rfl rfl)
theorem dX53_place_71 : decode cX53_place 71 = .ok (.getfield 16, 3) := dk_180 0 16 (dk_at dksX53_place_3 1 rfl rfl)
theorem dX53_place_74 : decode cX53_place 74 = .ok (.aload_n 0, 1) := dk_42 (dk_at dksX53_place_3 4 rfl rfl)
theorem dX53_place_75 : decode cX53_place 75 = .ok (.getfield 78, 3) := dk_180 0 78 (dk_at dksX53_place_3 5 rfl rfl)
theorem dX53_place_78 : decode cX53_place 78 = .ok (.lload 5, 2) := dk_22 5 (dk_at dksX53_place_3 8 rfl rfl)
theorem dX53_place_80 : decode cX53_place 80 = .ok (.l2i, 1) := dk_136 (dk_at dksX53_place_3 10 rfl rfl)
theorem dX53_place_81 : decode cX53_place 81 = .ok (.iastore, 1) := dk_79 (dk_at dksX53_place_3 11 rfl rfl)
theorem dX53_place_82 : decode cX53_place 82 = .ok (.aload_n 0, 1) := dk_42 (dk_at dksX53_place_3 12 rfl rfl)
theorem dX53_place_83 : decode cX53_place 83 = .ok (.dup, 1) := dk_89 (dk_at dksX53_place_3 13 rfl rfl)
theorem dX53_place_84 : decode cX53_place 84 = .ok (.getfield 78, 3) := dk_180 0 78 (dk_at dksX53_place_3 14 rfl rfl)
theorem dX53_place_87 : decode cX53_place 87 = .ok (.iconst 1, 1) := dk_4 (dk_at dksX53_place_3 17 rfl rfl)
theorem dX53_place_88 : decode cX53_place 88 = .ok (.iadd, 1) := dk_96 (dk_at dksX53_place_3 18 rfl rfl)
theorem dX53_place_89 : decode cX53_place 89 = .ok (.putfield 78, 3) := dk_181 0 78 (dk_at dksX53_place_3 19 rfl rfl)
theorem dX53_place_92 : decode cX53_place 92 = .ok (.aload_n 0, 1) := dk_42 (dk_at dksX53_place_3 22 rfl rfl)
theorem dX53_place_93 : decode cX53_place 93 = .ok (.getfield 78, 3) := dk_180 0 78 (dk_at dksX53_place_4 0 rfl rfl)
theorem dX53_place_96 : decode cX53_place 96 = .ok (.iconst 1, 1) := dk_4 (dk_at dksX53_place_4 3 rfl rfl)
theorem dX53_place_97 : decode cX53_place 97 = .ok (.isub, 1) := dk_100 (dk_at dksX53_place_4 4 rfl rfl)
theorem dX53_place_98 : decode cX53_place 98 = .ok (.ireturn, 1) := dk_172 (dk_at dksX53_place_4 5 rfl rfl)
abbrev cX53_placeOf : ByteArray := prog_58_method_20_code
def yX53_placeOf : MethodName := ⟨RX53, "placeOf", "(I)I"⟩
def dkwX53_placeOf_0 : List UInt8 := [42, 27, 182, 0, 136, 153, 0, 12, 42, 180, 0, 33, 27, 46, 167, 0, 4, 2, 172]
abbrev dktX53_placeOf_0 : List UInt8 := dkwX53_placeOf_0 ++ []
theorem dksX53_placeOf_0 : cX53_placeOf.data.toList.drop 0 = dktX53_placeOf_0 := by decide +kernel
theorem dX53_placeOf_0 : decode cX53_placeOf 0 = .ok (.aload_n 0, 1) := dk_42 (dk_at dksX53_placeOf_0 0 rfl rfl)
theorem dX53_placeOf_1 : decode cX53_placeOf 1 = .ok (.iload_n 1, 1) := dk_27 (dk_at dksX53_placeOf_0 1 rfl rfl)
theorem dX53_placeOf_2 : decode cX53_placeOf 2 = .ok (.invokevirtual 136, 3) := dk_182 0 136 (dk_at dksX53_placeOf_0 2 rfl rfl)
theorem dX53_placeOf_5 : decode cX53_placeOf 5 = .ok (.ifCond .eq 12, 3) := dk_153 0 12 (dk_at dksX53_placeOf_0 5 rfl rfl)
theorem dX53_placeOf_8 : decode cX53_placeOf 8 = .ok (.aload_n 0, 1) := dk_42 (dk_at dksX53_placeOf_0 8 rfl rfl)
theorem dX53_placeOf_9 : decode cX53_placeOf 9 = .ok (.getfield 33, 3) := dk_180 0 33 (dk_at dksX53_placeOf_0 9 rfl rfl)
theorem dX53_placeOf_12 : decode cX53_placeOf 12 = .ok (.iload_n 1, 1) := dk_27 (dk_at dksX53_placeOf_0 12 rfl rfl)
theorem dX53_placeOf_13 : decode cX53_placeOf 13 = .ok (.iaload, 1) := dk_46 (dk_at dksX53_placeOf_0 13 rfl rfl)
theorem dX53_placeOf_14 : decode cX53_placeOf 14 = .ok (.goto 4, 3) := dk_167 0 4 (dk_at dksX53_placeOf_0 14 rfl rfl)
theorem dX53_placeOf_17 : decode cX53_placeOf 17 = .ok (.iconst (-1), 1) := dk_2 (dk_at dksX53_placeOf_0 17 rfl rfl)
theorem dX53_placeOf_18 : decode cX53_placeOf 18 = .ok (.ireturn, 1) := dk_172 (dk_at dksX53_placeOf_0 18 rfl rfl)
abbrev cX53_plan : ByteArray := prog_58_method_21_code
def yX53_plan : MethodName := ⟨RX53, "plan", "(I)I"⟩
def dkwX53_plan_6 : List UInt8 := [132, 4, 1, 167, 255, 234, 28, 172, 42, 27, 182, 0, 143, 62, 167, 255, 205, 2, 172]
abbrev dktX53_plan_6 : List UInt8 := dkwX53_plan_6 ++ []
def dkwX53_plan_5 : List UInt8 := [3, 54, 4, 21, 4, 27, 162, 0, 22, 42, 21, 4, 42, 180, 0, 60, 21, 4, 46, 182, 0, 139]
abbrev dktX53_plan_5 : List UInt8 := dkwX53_plan_5 ++ dktX53_plan_6
def dkwX53_plan_4 : List UInt8 := [154, 0, 7, 4, 167, 0, 4, 3, 62, 29, 153, 0, 53, 42, 42, 180, 0, 60, 182, 0, 124, 153, 0, 33]
abbrev dktX53_plan_4 : List UInt8 := dkwX53_plan_4 ++ dktX53_plan_5
def dkwX53_plan_3 : List UInt8 := [154, 0, 7, 4, 167, 0, 4, 3, 96, 61, 132, 3, 1, 167, 255, 191, 42, 180, 0, 78, 157, 0, 7, 28]
abbrev dktX53_plan_3 : List UInt8 := dkwX53_plan_3 ++ dktX53_plan_4
def dkwX53_plan_2 : List UInt8 := [167, 0, 9, 42, 180, 0, 33, 29, 46, 79, 28, 29, 27, 162, 0, 16, 42, 180, 0, 29, 29, 51]
abbrev dktX53_plan_2 : List UInt8 := dkwX53_plan_2 ++ dktX53_plan_3
def dkwX53_plan_1 : List UInt8 := [42, 180, 0, 60, 29, 29, 27, 162, 0, 20, 42, 180, 0, 29, 29, 51, 153, 0, 7, 2, 167, 0, 13, 3]
abbrev dktX53_plan_1 : List UInt8 := dkwX53_plan_1 ++ dktX53_plan_2
def dkwX53_plan_0 : List UInt8 := [27, 155, 0, 11, 27, 42, 180, 0, 81, 164, 0, 5, 2, 172, 3, 61, 3, 62, 29, 16, 6, 162, 0, 65]
abbrev dktX53_plan_0 : List UInt8 := dkwX53_plan_0 ++ dktX53_plan_1
theorem dksX53_plan_0 : cX53_plan.data.toList.drop 0 = dktX53_plan_0 := by decide +kernel
theorem dksX53_plan_1 : cX53_plan.data.toList.drop 24 = dktX53_plan_1 := dk_seg dksX53_plan_0 24 rfl rfl
theorem dksX53_plan_2 : cX53_plan.data.toList.drop 48 = dktX53_plan_2 := dk_seg dksX53_plan_1 24 rfl rfl
theorem dksX53_plan_3 : cX53_plan.data.toList.drop 70 = dktX53_plan_3 := dk_seg dksX53_plan_2 22 rfl rfl
theorem dksX53_plan_4 : cX53_plan.data.toList.drop 94 = dktX53_plan_4 := dk_seg dksX53_plan_3 24 rfl rfl
theorem dksX53_plan_5 : cX53_plan.data.toList.drop 118 = dktX53_plan_5 := dk_seg dksX53_plan_4 24 rfl rfl
theorem dksX53_plan_6 : cX53_plan.data.toList.drop 140 = dktX53_plan_6 := dk_seg dksX53_plan_5 22 rfl rfl
theorem dX53_plan_0 : decode cX53_plan 0 = .ok (.iload_n 1, 1) := dk_27 (dk_at dksX53_plan_0 0 rfl rfl)
theorem dX53_plan_1 : decode cX53_plan 1 = .ok (.ifCond .lt 11, 3) := dk_155 0 11 (dk_at dksX53_plan_0 1 rfl rfl)
theorem dX53_plan_4 : decode cX53_plan 4 = .ok (.iload_n 1, 1) := dk_27 (dk_at dksX53_plan_0 4 rfl rfl)
theorem dX53_plan_5 : decode cX53_plan 5 = .ok (.aload_n 0, 1) := dk_42 (dk_at dksX53_plan_0 5 rfl rfl)
theorem dX53_plan_6 : decode cX53_plan 6 = .ok (.getfield 81, 3) := dk_180 0 81 (dk_at dksX53_plan_0 6 rfl rfl)
theorem dX53_plan_9 : decode cX53_plan 9 = .ok (.if_icmp .le 5, 3) := dk_164 0 5 (dk_at dksX53_plan_0 9 rfl rfl)
theorem dX53_plan_12 : decode cX53_plan 12 = .ok (.iconst (-1), 1) := dk_2 (dk_at dksX53_plan_0 12 rfl rfl)
theorem dX53_plan_13 : decode cX53_plan 13 = .ok (.ireturn, 1) := dk_172 (dk_at dksX53_plan_0 13 rfl rfl)
theorem dX53_plan_14 : decode cX53_plan 14 = .ok (.iconst 0, 1) := dk_3 (dk_at dksX53_plan_0 14 rfl rfl)
theorem dX53_plan_15 : decode cX53_plan 15 = .ok (.istore_n 2, 1) := dk_61 (dk_at dksX53_plan_0 15 rfl rfl)
theorem dX53_plan_16 : decode cX53_plan 16 = .ok (.iconst 0, 1) := dk_3 (dk_at dksX53_plan_0 16 rfl rfl)
theorem dX53_plan_17 : decode cX53_plan 17 = .ok (.istore_n 3, 1) := dk_62 (dk_at dksX53_plan_0 17 rfl rfl)
theorem dX53_plan_18 : decode cX53_plan 18 = .ok (.iload_n 3, 1) := dk_29 (dk_at dksX53_plan_0 18 rfl rfl)
theorem dX53_plan_19 : decode cX53_plan 19 = .ok (.bipush 6, 2) := dk_16 6 (dk_at dksX53_plan_0 19 rfl rfl)
theorem dX53_plan_21 : decode cX53_plan 21 = .ok (.if_icmp .ge 65, 3) := dk_162 0 65 (dk_at dksX53_plan_0 21 rfl rfl)
theorem dX53_plan_24 : decode cX53_plan 24 = .ok (.aload_n 0, 1) := dk_42 (dk_at dksX53_plan_1 0 rfl rfl)
theorem dX53_plan_25 : decode cX53_plan 25 = .ok (.getfield 60, 3) := dk_180 0 60 (dk_at dksX53_plan_1 1 rfl rfl)
theorem dX53_plan_28 : decode cX53_plan 28 = .ok (.iload_n 3, 1) := dk_29 (dk_at dksX53_plan_1 4 rfl rfl)
theorem dX53_plan_29 : decode cX53_plan 29 = .ok (.iload_n 3, 1) := dk_29 (dk_at dksX53_plan_1 5 rfl rfl)
theorem dX53_plan_30 : decode cX53_plan 30 = .ok (.iload_n 1, 1) := dk_27 (dk_at dksX53_plan_1 6 rfl rfl)
theorem dX53_plan_31 : decode cX53_plan 31 = .ok (.if_icmp .ge 20, 3) := dk_162 0 20 (dk_at dksX53_plan_1 7 rfl rfl)
theorem dX53_plan_34 : decode cX53_plan 34 = .ok (.aload_n 0, 1) := dk_42 (dk_at dksX53_plan_1 10 rfl rfl)
theorem dX53_plan_35 : decode cX53_plan 35 = .ok (.getfield 29, 3) := dk_180 0 29 (dk_at dksX53_plan_1 11 rfl rfl)
theorem dX53_plan_38 : decode cX53_plan 38 = .ok (.iload_n 3, 1) := dk_29 (dk_at dksX53_plan_1 14 rfl rfl)
theorem dX53_plan_39 : decode cX53_plan 39 = .ok (.baload, 1) := dk_51 (dk_at dksX53_plan_1 15 rfl rfl)
theorem dX53_plan_40 : decode cX53_plan 40 = .ok (.ifCond .eq 7, 3) := dk_153 0 7 (dk_at dksX53_plan_1 16 rfl rfl)
theorem dX53_plan_43 : decode cX53_plan 43 = .ok (.iconst (-1), 1) := dk_2 (dk_at dksX53_plan_1 19 rfl rfl)
theorem dX53_plan_44 : decode cX53_plan 44 = .ok (.goto 13, 3) := dk_167 0 13 (dk_at dksX53_plan_1 20 rfl rfl)
theorem dX53_plan_47 : decode cX53_plan 47 = .ok (.iconst 0, 1) := dk_3 (dk_at dksX53_plan_1 23 rfl rfl)
theorem dX53_plan_48 : decode cX53_plan 48 = .ok (.goto 9, 3) := dk_167 0 9 (dk_at dksX53_plan_2 0 rfl rfl)
theorem dX53_plan_51 : decode cX53_plan 51 = .ok (.aload_n 0, 1) := dk_42 (dk_at dksX53_plan_2 3 rfl rfl)
theorem dX53_plan_52 : decode cX53_plan 52 = .ok (.getfield 33, 3) := dk_180 0 33 (dk_at dksX53_plan_2 4 rfl rfl)
theorem dX53_plan_55 : decode cX53_plan 55 = .ok (.iload_n 3, 1) := dk_29 (dk_at dksX53_plan_2 7 rfl rfl)
theorem dX53_plan_56 : decode cX53_plan 56 = .ok (.iaload, 1) := dk_46 (dk_at dksX53_plan_2 8 rfl rfl)
theorem dX53_plan_57 : decode cX53_plan 57 = .ok (.iastore, 1) := dk_79 (dk_at dksX53_plan_2 9 rfl rfl)
theorem dX53_plan_58 : decode cX53_plan 58 = .ok (.iload_n 2, 1) := dk_28 (dk_at dksX53_plan_2 10 rfl rfl)
theorem dX53_plan_59 : decode cX53_plan 59 = .ok (.iload_n 3, 1) := dk_29 (dk_at dksX53_plan_2 11 rfl rfl)
theorem dX53_plan_60 : decode cX53_plan 60 = .ok (.iload_n 1, 1) := dk_27 (dk_at dksX53_plan_2 12 rfl rfl)
theorem dX53_plan_61 : decode cX53_plan 61 = .ok (.if_icmp .ge 16, 3) := dk_162 0 16 (dk_at dksX53_plan_2 13 rfl rfl)
theorem dX53_plan_64 : decode cX53_plan 64 = .ok (.aload_n 0, 1) := dk_42 (dk_at dksX53_plan_2 16 rfl rfl)
theorem dX53_plan_65 : decode cX53_plan 65 = .ok (.getfield 29, 3) := dk_180 0 29 (dk_at dksX53_plan_2 17 rfl rfl)
theorem dX53_plan_68 : decode cX53_plan 68 = .ok (.iload_n 3, 1) := dk_29 (dk_at dksX53_plan_2 20 rfl rfl)
theorem dX53_plan_69 : decode cX53_plan 69 = .ok (.baload, 1) := dk_51 (dk_at dksX53_plan_2 21 rfl rfl)
theorem dX53_plan_70 : decode cX53_plan 70 = .ok (.ifCond .ne 7, 3) := dk_154 0 7 (dk_at dksX53_plan_3 0 rfl rfl)
theorem dX53_plan_73 : decode cX53_plan 73 = .ok (.iconst 1, 1) := dk_4 (dk_at dksX53_plan_3 3 rfl rfl)
theorem dX53_plan_74 : decode cX53_plan 74 = .ok (.goto 4, 3) := dk_167 0 4 (dk_at dksX53_plan_3 4 rfl rfl)
theorem dX53_plan_77 : decode cX53_plan 77 = .ok (.iconst 0, 1) := dk_3 (dk_at dksX53_plan_3 7 rfl rfl)
theorem dX53_plan_78 : decode cX53_plan 78 = .ok (.iadd, 1) := dk_96 (dk_at dksX53_plan_3 8 rfl rfl)
theorem dX53_plan_79 : decode cX53_plan 79 = .ok (.istore_n 2, 1) := dk_61 (dk_at dksX53_plan_3 9 rfl rfl)
theorem dX53_plan_80 : decode cX53_plan 80 = .ok (.iinc 3 1, 3) := dk_132 3 1 (dk_at dksX53_plan_3 10 rfl rfl)
theorem dX53_plan_83 : decode cX53_plan 83 = .ok (.goto (-65), 3) := dk_167 255 191 (dk_at dksX53_plan_3 13 rfl rfl)
theorem dX53_plan_86 : decode cX53_plan 86 = .ok (.aload_n 0, 1) := dk_42 (dk_at dksX53_plan_3 16 rfl rfl)
theorem dX53_plan_87 : decode cX53_plan 87 = .ok (.getfield 78, 3) := dk_180 0 78 (dk_at dksX53_plan_3 17 rfl rfl)
theorem dX53_plan_90 : decode cX53_plan 90 = .ok (.ifCond .gt 7, 3) := dk_157 0 7 (dk_at dksX53_plan_3 20 rfl rfl)
theorem dX53_plan_93 : decode cX53_plan 93 = .ok (.iload_n 2, 1) := dk_28 (dk_at dksX53_plan_3 23 rfl rfl)
theorem dX53_plan_94 : decode cX53_plan 94 = .ok (.ifCond .ne 7, 3) := dk_154 0 7 (dk_at dksX53_plan_4 0 rfl rfl)
theorem dX53_plan_97 : decode cX53_plan 97 = .ok (.iconst 1, 1) := dk_4 (dk_at dksX53_plan_4 3 rfl rfl)
theorem dX53_plan_98 : decode cX53_plan 98 = .ok (.goto 4, 3) := dk_167 0 4 (dk_at dksX53_plan_4 4 rfl rfl)
theorem dX53_plan_101 : decode cX53_plan 101 = .ok (.iconst 0, 1) := dk_3 (dk_at dksX53_plan_4 7 rfl rfl)
theorem dX53_plan_102 : decode cX53_plan 102 = .ok (.istore_n 3, 1) := dk_62 (dk_at dksX53_plan_4 8 rfl rfl)
theorem dX53_plan_103 : decode cX53_plan 103 = .ok (.iload_n 3, 1) := dk_29 (dk_at dksX53_plan_4 9 rfl rfl)
theorem dX53_plan_104 : decode cX53_plan 104 = .ok (.ifCond .eq 53, 3) := dk_153 0 53 (dk_at dksX53_plan_4 10 rfl rfl)
theorem dX53_plan_107 : decode cX53_plan 107 = .ok (.aload_n 0, 1) := dk_42 (dk_at dksX53_plan_4 13 rfl rfl)
theorem dX53_plan_108 : decode cX53_plan 108 = .ok (.aload_n 0, 1) := dk_42 (dk_at dksX53_plan_4 14 rfl rfl)
theorem dX53_plan_109 : decode cX53_plan 109 = .ok (.getfield 60, 3) := dk_180 0 60 (dk_at dksX53_plan_4 15 rfl rfl)
theorem dX53_plan_112 : decode cX53_plan 112 = .ok (.invokevirtual 124, 3) := dk_182 0 124 (dk_at dksX53_plan_4 18 rfl rfl)
theorem dX53_plan_115 : decode cX53_plan 115 = .ok (.ifCond .eq 33, 3) := dk_153 0 33 (dk_at dksX53_plan_4 21 rfl rfl)
theorem dX53_plan_118 : decode cX53_plan 118 = .ok (.iconst 0, 1) := dk_3 (dk_at dksX53_plan_5 0 rfl rfl)
theorem dX53_plan_119 : decode cX53_plan 119 = .ok (.istore 4, 2) := dk_54 4 (dk_at dksX53_plan_5 1 rfl rfl)
theorem dX53_plan_121 : decode cX53_plan 121 = .ok (.iload 4, 2) := dk_21 4 (dk_at dksX53_plan_5 3 rfl rfl)
theorem dX53_plan_123 : decode cX53_plan 123 = .ok (.iload_n 1, 1) := dk_27 (dk_at dksX53_plan_5 5 rfl rfl)
theorem dX53_plan_124 : decode cX53_plan 124 = .ok (.if_icmp .ge 22, 3) := dk_162 0 22 (dk_at dksX53_plan_5 6 rfl rfl)
theorem dX53_plan_127 : decode cX53_plan 127 = .ok (.aload_n 0, 1) := dk_42 (dk_at dksX53_plan_5 9 rfl rfl)
theorem dX53_plan_128 : decode cX53_plan 128 = .ok (.iload 4, 2) := dk_21 4 (dk_at dksX53_plan_5 10 rfl rfl)
theorem dX53_plan_130 : decode cX53_plan 130 = .ok (.aload_n 0, 1) := dk_42 (dk_at dksX53_plan_5 12 rfl rfl)
theorem dX53_plan_131 : decode cX53_plan 131 = .ok (.getfield 60, 3) := dk_180 0 60 (dk_at dksX53_plan_5 13 rfl rfl)
theorem dX53_plan_134 : decode cX53_plan 134 = .ok (.iload 4, 2) := dk_21 4 (dk_at dksX53_plan_5 16 rfl rfl)
theorem dX53_plan_136 : decode cX53_plan 136 = .ok (.iaload, 1) := dk_46 (dk_at dksX53_plan_5 18 rfl rfl)
theorem dX53_plan_137 : decode cX53_plan 137 = .ok (.invokevirtual 139, 3) := dk_182 0 139 (dk_at dksX53_plan_5 19 rfl rfl)
theorem dX53_plan_140 : decode cX53_plan 140 = .ok (.iinc 4 1, 3) := dk_132 4 1 (dk_at dksX53_plan_6 0 rfl rfl)
theorem dX53_plan_143 : decode cX53_plan 143 = .ok (.goto (-22), 3) := dk_167 255 234 (dk_at dksX53_plan_6 3 rfl rfl)
theorem dX53_plan_146 : decode cX53_plan 146 = .ok (.iload_n 2, 1) := dk_28 (dk_at dksX53_plan_6 6 rfl rfl)
theorem dX53_plan_147 : decode cX53_plan 147 = .ok (.ireturn, 1) := dk_172 (dk_at dksX53_plan_6 7 rfl rfl)
theorem dX53_plan_148 : decode cX53_plan 148 = .ok (.aload_n 0, 1) := dk_42 (dk_at dksX53_plan_6 8 rfl rfl)
theorem dX53_plan_149 : decode cX53_plan 149 = .ok (.iload_n 1, 1) := dk_27 (dk_at dksX53_plan_6 9 rfl rfl)
theorem dX53_plan_150 : decode cX53_plan 150 = .ok (.invokevirtual 143, 3) := dk_182 0 143 (dk_at dksX53_plan_6 10 rfl rfl)
theorem dX53_plan_153 : decode cX53_plan 153 = .ok (.istore_n 3, 1) := dk_62 (dk_at dksX53_plan_6 13 rfl rfl)
theorem dX53_plan_154 : decode cX53_plan 154 = .ok (.goto (-51), 3) := dk_167 255 205 (dk_at dksX53_plan_6 14 rfl rfl)
theorem dX53_plan_157 : decode cX53_plan 157 = .ok (.iconst (-1), 1) := dk_2 (dk_at dksX53_plan_6 17 rfl rfl)
theorem dX53_plan_158 : decode cX53_plan 158 = .ok (.ireturn, 1) := dk_172 (dk_at dksX53_plan_6 18 rfl rfl)
abbrev cX53_next : ByteArray := prog_58_method_22_code
def yX53_next : MethodName := ⟨RX53, "next", "(I)Z"⟩
def dkwX53_next_2 : List UInt8 := [28, 3, 79, 132, 2, 255, 167, 255, 206, 3, 172]
abbrev dktX53_next_2 : List UInt8 := dkwX53_next_2 ++ []
def dkwX53_next_1 : List UInt8 := [180, 0, 78, 4, 100, 162, 0, 15, 42, 180, 0, 60, 28, 92, 46, 4, 96, 79, 4, 172, 42, 180, 0, 60]
abbrev dktX53_next_1 : List UInt8 := dkwX53_next_1 ++ dktX53_next_2
def dkwX53_next_0 : List UInt8 := [27, 4, 100, 61, 28, 155, 0, 52, 42, 180, 0, 29, 28, 51, 154, 0, 37, 42, 180, 0, 60, 28, 46, 42]
abbrev dktX53_next_0 : List UInt8 := dkwX53_next_0 ++ dktX53_next_1
theorem dksX53_next_0 : cX53_next.data.toList.drop 0 = dktX53_next_0 := by decide +kernel
theorem dksX53_next_1 : cX53_next.data.toList.drop 24 = dktX53_next_1 := dk_seg dksX53_next_0 24 rfl rfl
theorem dksX53_next_2 : cX53_next.data.toList.drop 48 = dktX53_next_2 := dk_seg dksX53_next_1 24 rfl rfl
theorem dX53_next_0 : decode cX53_next 0 = .ok (.iload_n 1, 1) := dk_27 (dk_at dksX53_next_0 0 rfl rfl)
theorem dX53_next_1 : decode cX53_next 1 = .ok (.iconst 1, 1) := dk_4 (dk_at dksX53_next_0 1 rfl rfl)
theorem dX53_next_2 : decode cX53_next 2 = .ok (.isub, 1) := dk_100 (dk_at dksX53_next_0 2 rfl rfl)
theorem dX53_next_3 : decode cX53_next 3 = .ok (.istore_n 2, 1) := dk_61 (dk_at dksX53_next_0 3 rfl rfl)
theorem dX53_next_4 : decode cX53_next 4 = .ok (.iload_n 2, 1) := dk_28 (dk_at dksX53_next_0 4 rfl rfl)
theorem dX53_next_5 : decode cX53_next 5 = .ok (.ifCond .lt 52, 3) := dk_155 0 52 (dk_at dksX53_next_0 5 rfl rfl)
theorem dX53_next_8 : decode cX53_next 8 = .ok (.aload_n 0, 1) := dk_42 (dk_at dksX53_next_0 8 rfl rfl)
theorem dX53_next_9 : decode cX53_next 9 = .ok (.getfield 29, 3) := dk_180 0 29 (dk_at dksX53_next_0 9 rfl rfl)
theorem dX53_next_12 : decode cX53_next 12 = .ok (.iload_n 2, 1) := dk_28 (dk_at dksX53_next_0 12 rfl rfl)
theorem dX53_next_13 : decode cX53_next 13 = .ok (.baload, 1) := dk_51 (dk_at dksX53_next_0 13 rfl rfl)
theorem dX53_next_14 : decode cX53_next 14 = .ok (.ifCond .ne 37, 3) := dk_154 0 37 (dk_at dksX53_next_0 14 rfl rfl)
theorem dX53_next_17 : decode cX53_next 17 = .ok (.aload_n 0, 1) := dk_42 (dk_at dksX53_next_0 17 rfl rfl)
theorem dX53_next_18 : decode cX53_next 18 = .ok (.getfield 60, 3) := dk_180 0 60 (dk_at dksX53_next_0 18 rfl rfl)
theorem dX53_next_21 : decode cX53_next 21 = .ok (.iload_n 2, 1) := dk_28 (dk_at dksX53_next_0 21 rfl rfl)
theorem dX53_next_22 : decode cX53_next 22 = .ok (.iaload, 1) := dk_46 (dk_at dksX53_next_0 22 rfl rfl)
theorem dX53_next_23 : decode cX53_next 23 = .ok (.aload_n 0, 1) := dk_42 (dk_at dksX53_next_0 23 rfl rfl)
theorem dX53_next_24 : decode cX53_next 24 = .ok (.getfield 78, 3) := dk_180 0 78 (dk_at dksX53_next_1 0 rfl rfl)
theorem dX53_next_27 : decode cX53_next 27 = .ok (.iconst 1, 1) := dk_4 (dk_at dksX53_next_1 3 rfl rfl)
theorem dX53_next_28 : decode cX53_next 28 = .ok (.isub, 1) := dk_100 (dk_at dksX53_next_1 4 rfl rfl)
theorem dX53_next_29 : decode cX53_next 29 = .ok (.if_icmp .ge 15, 3) := dk_162 0 15 (dk_at dksX53_next_1 5 rfl rfl)
theorem dX53_next_32 : decode cX53_next 32 = .ok (.aload_n 0, 1) := dk_42 (dk_at dksX53_next_1 8 rfl rfl)
theorem dX53_next_33 : decode cX53_next 33 = .ok (.getfield 60, 3) := dk_180 0 60 (dk_at dksX53_next_1 9 rfl rfl)
theorem dX53_next_36 : decode cX53_next 36 = .ok (.iload_n 2, 1) := dk_28 (dk_at dksX53_next_1 12 rfl rfl)
theorem dX53_next_37 : decode cX53_next 37 = .ok (.dup2, 1) := dk_92 (dk_at dksX53_next_1 13 rfl rfl)
theorem dX53_next_38 : decode cX53_next 38 = .ok (.iaload, 1) := dk_46 (dk_at dksX53_next_1 14 rfl rfl)
theorem dX53_next_39 : decode cX53_next 39 = .ok (.iconst 1, 1) := dk_4 (dk_at dksX53_next_1 15 rfl rfl)
theorem dX53_next_40 : decode cX53_next 40 = .ok (.iadd, 1) := dk_96 (dk_at dksX53_next_1 16 rfl rfl)
theorem dX53_next_41 : decode cX53_next 41 = .ok (.iastore, 1) := dk_79 (dk_at dksX53_next_1 17 rfl rfl)
theorem dX53_next_42 : decode cX53_next 42 = .ok (.iconst 1, 1) := dk_4 (dk_at dksX53_next_1 18 rfl rfl)
theorem dX53_next_43 : decode cX53_next 43 = .ok (.ireturn, 1) := dk_172 (dk_at dksX53_next_1 19 rfl rfl)
theorem dX53_next_44 : decode cX53_next 44 = .ok (.aload_n 0, 1) := dk_42 (dk_at dksX53_next_1 20 rfl rfl)
theorem dX53_next_45 : decode cX53_next 45 = .ok (.getfield 60, 3) := dk_180 0 60 (dk_at dksX53_next_1 21 rfl rfl)
theorem dX53_next_48 : decode cX53_next 48 = .ok (.iload_n 2, 1) := dk_28 (dk_at dksX53_next_2 0 rfl rfl)
theorem dX53_next_49 : decode cX53_next 49 = .ok (.iconst 0, 1) := dk_3 (dk_at dksX53_next_2 1 rfl rfl)
theorem dX53_next_50 : decode cX53_next 50 = .ok (.iastore, 1) := dk_79 (dk_at dksX53_next_2 2 rfl rfl)
theorem dX53_next_51 : decode cX53_next 51 = .ok (.iinc 2 (-1), 3) := dk_132 2 255 (dk_at dksX53_next_2 3 rfl rfl)
theorem dX53_next_54 : decode cX53_next 54 = .ok (.goto (-50), 3) := dk_167 255 206 (dk_at dksX53_next_2 6 rfl rfl)
theorem dX53_next_57 : decode cX53_next 57 = .ok (.iconst 0, 1) := dk_3 (dk_at dksX53_next_2 9 rfl rfl)
theorem dX53_next_58 : decode cX53_next 58 = .ok (.ireturn, 1) := dk_172 (dk_at dksX53_next_2 10 rfl rfl)
abbrev cX53_moves : ByteArray := prog_58_method_27_code
def yX53_moves : MethodName := ⟨RX53, "moves", "(II)I"⟩
def dkwX53_moves_10 : List UInt8 := [167, 255, 238, 42, 180, 0, 69, 172]
abbrev dktX53_moves_10 : List UInt8 := dkwX53_moves_10 ++ []
def dkwX53_moves_9 : List UInt8 := [181, 0, 69, 29, 54, 5, 42, 180, 0, 57, 21, 5, 46, 158, 0, 14, 42, 21, 5, 182, 0, 164, 54, 5]
abbrev dktX53_moves_9 : List UInt8 := dkwX53_moves_9 ++ dktX53_moves_10
def dkwX53_moves_8 : List UInt8 := [132, 5, 1, 167, 255, 192, 167, 255, 178, 42, 180, 0, 57, 29, 46, 18, 159, 161, 0, 5, 2, 172, 42, 3]
abbrev dktX53_moves_8 : List UInt8 := dkwX53_moves_8 ++ dktX53_moves_9
def dkwX53_moves_7 : List UInt8 := [180, 0, 57, 21, 5, 46, 162, 0, 17, 42, 180, 0, 57, 21, 5, 21, 6, 4, 96, 79, 4, 54, 4]
abbrev dktX53_moves_7 : List UInt8 := dkwX53_moves_7 ++ dktX53_moves_8
def dkwX53_moves_6 : List UInt8 := [51, 154, 0, 9, 21, 5, 29, 160, 0, 39, 42, 21, 5, 182, 0, 160, 54, 6, 21, 6, 4, 96, 42]
abbrev dktX53_moves_6 : List UInt8 := dkwX53_moves_6 ++ dktX53_moves_7
def dkwX53_moves_5 : List UInt8 := [153, 0, 79, 3, 54, 4, 3, 54, 5, 21, 5, 42, 182, 0, 146, 162, 0, 61, 42, 180, 0, 54, 21, 5]
abbrev dktX53_moves_5 : List UInt8 := dkwX53_moves_5 ++ dktX53_moves_6
def dkwX53_moves_4 : List UInt8 := [21, 4, 29, 160, 0, 7, 3, 167, 0, 5, 18, 159, 79, 132, 4, 1, 167, 255, 190, 4, 54, 4, 21, 4]
abbrev dktX53_moves_4 : List UInt8 := dkwX53_moves_4 ++ dktX53_moves_5
def dkwX53_moves_3 : List UInt8 := [3, 54, 5, 42, 180, 0, 57, 21, 4, 21, 5, 153, 0, 23, 42, 180, 0, 54, 21, 4, 51, 154, 0, 9]
abbrev dktX53_moves_3 : List UInt8 := dkwX53_moves_3 ++ dktX53_moves_4
def dkwX53_moves_2 : List UInt8 := [42, 182, 0, 146, 162, 0, 63, 42, 21, 4, 27, 182, 0, 150, 28, 4, 96, 160, 0, 7, 4, 167, 0, 4]
abbrev dktX53_moves_2 : List UInt8 := dkwX53_moves_2 ++ dktX53_moves_3
def dkwX53_moves_1 : List UInt8 := [153, 0, 5, 2, 172, 42, 2, 181, 0, 69, 42, 182, 0, 153, 42, 182, 0, 156, 62, 3, 54, 4, 21, 4]
abbrev dktX53_moves_1 : List UInt8 := dkwX53_moves_1 ++ dktX53_moves_2
def dkwX53_moves_0 : List UInt8 := [42, 27, 182, 0, 136, 153, 0, 20, 42, 28, 182, 0, 128, 153, 0, 12, 42, 180, 0, 29, 27, 51]
abbrev dktX53_moves_0 : List UInt8 := dkwX53_moves_0 ++ dktX53_moves_1
theorem dksX53_moves_0 : cX53_moves.data.toList.drop 0 = dktX53_moves_0 := by decide +kernel
theorem dksX53_moves_1 : cX53_moves.data.toList.drop 22 = dktX53_moves_1 := dk_seg dksX53_moves_0 22 rfl rfl
theorem dksX53_moves_2 : cX53_moves.data.toList.drop 46 = dktX53_moves_2 := dk_seg dksX53_moves_1 24 rfl rfl
theorem dksX53_moves_3 : cX53_moves.data.toList.drop 70 = dktX53_moves_3 := dk_seg dksX53_moves_2 24 rfl rfl
theorem dksX53_moves_4 : cX53_moves.data.toList.drop 94 = dktX53_moves_4 := dk_seg dksX53_moves_3 24 rfl rfl
theorem dksX53_moves_5 : cX53_moves.data.toList.drop 118 = dktX53_moves_5 := dk_seg dksX53_moves_4 24 rfl rfl
theorem dksX53_moves_6 : cX53_moves.data.toList.drop 142 = dktX53_moves_6 := dk_seg dksX53_moves_5 24 rfl rfl
theorem dksX53_moves_7 : cX53_moves.data.toList.drop 165 = dktX53_moves_7 := dk_seg dksX53_moves_6 23 rfl rfl
theorem dksX53_moves_8 : cX53_moves.data.toList.drop 188 = dktX53_moves_8 := dk_seg dksX53_moves_7 23 rfl rfl
theorem dksX53_moves_9 : cX53_moves.data.toList.drop 212 = dktX53_moves_9 := dk_seg dksX53_moves_8 24 rfl rfl
theorem dksX53_moves_10 : cX53_moves.data.toList.drop 236 = dktX53_moves_10 := dk_seg dksX53_moves_9 24 rfl rfl
theorem dX53_moves_0 : decode cX53_moves 0 = .ok (.aload_n 0, 1) := dk_42 (dk_at dksX53_moves_0 0 rfl rfl)
theorem dX53_moves_1 : decode cX53_moves 1 = .ok (.iload_n 1, 1) := dk_27 (dk_at dksX53_moves_0 1 rfl rfl)
theorem dX53_moves_2 : decode cX53_moves 2 = .ok (.invokevirtual 136, 3) := dk_182 0 136 (dk_at dksX53_moves_0 2 rfl rfl)
theorem dX53_moves_5 : decode cX53_moves 5 = .ok (.ifCond .eq 20, 3) := dk_153 0 20 (dk_at dksX53_moves_0 5 rfl rfl)
theorem dX53_moves_8 : decode cX53_moves 8 = .ok (.aload_n 0, 1) := dk_42 (dk_at dksX53_moves_0 8 rfl rfl)
theorem dX53_moves_9 : decode cX53_moves 9 = .ok (.iload_n 2, 1) := dk_28 (dk_at dksX53_moves_0 9 rfl rfl)
theorem dX53_moves_10 : decode cX53_moves 10 = .ok (.invokevirtual 128, 3) := dk_182 0 128 (dk_at dksX53_moves_0 10 rfl rfl)
theorem dX53_moves_13 : decode cX53_moves 13 = .ok (.ifCond .eq 12, 3) := dk_153 0 12 (dk_at dksX53_moves_0 13 rfl rfl)
theorem dX53_moves_16 : decode cX53_moves 16 = .ok (.aload_n 0, 1) := dk_42 (dk_at dksX53_moves_0 16 rfl rfl)
theorem dX53_moves_17 : decode cX53_moves 17 = .ok (.getfield 29, 3) := dk_180 0 29 (dk_at dksX53_moves_0 17 rfl rfl)
theorem dX53_moves_20 : decode cX53_moves 20 = .ok (.iload_n 1, 1) := dk_27 (dk_at dksX53_moves_0 20 rfl rfl)
theorem dX53_moves_21 : decode cX53_moves 21 = .ok (.baload, 1) := dk_51 (dk_at dksX53_moves_0 21 rfl rfl)
theorem dX53_moves_22 : decode cX53_moves 22 = .ok (.ifCond .eq 5, 3) := dk_153 0 5 (dk_at dksX53_moves_1 0 rfl rfl)
theorem dX53_moves_25 : decode cX53_moves 25 = .ok (.iconst (-1), 1) := dk_2 (dk_at dksX53_moves_1 3 rfl rfl)
theorem dX53_moves_26 : decode cX53_moves 26 = .ok (.ireturn, 1) := dk_172 (dk_at dksX53_moves_1 4 rfl rfl)
theorem dX53_moves_27 : decode cX53_moves 27 = .ok (.aload_n 0, 1) := dk_42 (dk_at dksX53_moves_1 5 rfl rfl)
theorem dX53_moves_28 : decode cX53_moves 28 = .ok (.iconst (-1), 1) := dk_2 (dk_at dksX53_moves_1 6 rfl rfl)
theorem dX53_moves_29 : decode cX53_moves 29 = .ok (.putfield 69, 3) := dk_181 0 69 (dk_at dksX53_moves_1 7 rfl rfl)
theorem dX53_moves_32 : decode cX53_moves 32 = .ok (.aload_n 0, 1) := dk_42 (dk_at dksX53_moves_1 10 rfl rfl)
theorem dX53_moves_33 : decode cX53_moves 33 = .ok (.invokevirtual 153, 3) := dk_182 0 153 (dk_at dksX53_moves_1 11 rfl rfl)
theorem dX53_moves_36 : decode cX53_moves 36 = .ok (.aload_n 0, 1) := dk_42 (dk_at dksX53_moves_1 14 rfl rfl)
theorem dX53_moves_37 : decode cX53_moves 37 = .ok (.invokevirtual 156, 3) := dk_182 0 156 (dk_at dksX53_moves_1 15 rfl rfl)
theorem dX53_moves_40 : decode cX53_moves 40 = .ok (.istore_n 3, 1) := dk_62 (dk_at dksX53_moves_1 18 rfl rfl)
theorem dX53_moves_41 : decode cX53_moves 41 = .ok (.iconst 0, 1) := dk_3 (dk_at dksX53_moves_1 19 rfl rfl)
theorem dX53_moves_42 : decode cX53_moves 42 = .ok (.istore 4, 2) := dk_54 4 (dk_at dksX53_moves_1 20 rfl rfl)
theorem dX53_moves_44 : decode cX53_moves 44 = .ok (.iload 4, 2) := dk_21 4 (dk_at dksX53_moves_1 22 rfl rfl)
theorem dX53_moves_46 : decode cX53_moves 46 = .ok (.aload_n 0, 1) := dk_42 (dk_at dksX53_moves_2 0 rfl rfl)
theorem dX53_moves_47 : decode cX53_moves 47 = .ok (.invokevirtual 146, 3) := dk_182 0 146 (dk_at dksX53_moves_2 1 rfl rfl)
theorem dX53_moves_50 : decode cX53_moves 50 = .ok (.if_icmp .ge 63, 3) := dk_162 0 63 (dk_at dksX53_moves_2 4 rfl rfl)
theorem dX53_moves_53 : decode cX53_moves 53 = .ok (.aload_n 0, 1) := dk_42 (dk_at dksX53_moves_2 7 rfl rfl)
theorem dX53_moves_54 : decode cX53_moves 54 = .ok (.iload 4, 2) := dk_21 4 (dk_at dksX53_moves_2 8 rfl rfl)
theorem dX53_moves_56 : decode cX53_moves 56 = .ok (.iload_n 1, 1) := dk_27 (dk_at dksX53_moves_2 10 rfl rfl)
theorem dX53_moves_57 : decode cX53_moves 57 = .ok (.invokevirtual 150, 3) := dk_182 0 150 (dk_at dksX53_moves_2 11 rfl rfl)
theorem dX53_moves_60 : decode cX53_moves 60 = .ok (.iload_n 2, 1) := dk_28 (dk_at dksX53_moves_2 14 rfl rfl)
theorem dX53_moves_61 : decode cX53_moves 61 = .ok (.iconst 1, 1) := dk_4 (dk_at dksX53_moves_2 15 rfl rfl)
theorem dX53_moves_62 : decode cX53_moves 62 = .ok (.iadd, 1) := dk_96 (dk_at dksX53_moves_2 16 rfl rfl)
theorem dX53_moves_63 : decode cX53_moves 63 = .ok (.if_icmp .ne 7, 3) := dk_160 0 7 (dk_at dksX53_moves_2 17 rfl rfl)
theorem dX53_moves_66 : decode cX53_moves 66 = .ok (.iconst 1, 1) := dk_4 (dk_at dksX53_moves_2 20 rfl rfl)
theorem dX53_moves_67 : decode cX53_moves 67 = .ok (.goto 4, 3) := dk_167 0 4 (dk_at dksX53_moves_2 21 rfl rfl)
theorem dX53_moves_70 : decode cX53_moves 70 = .ok (.iconst 0, 1) := dk_3 (dk_at dksX53_moves_3 0 rfl rfl)
theorem dX53_moves_71 : decode cX53_moves 71 = .ok (.istore 5, 2) := dk_54 5 (dk_at dksX53_moves_3 1 rfl rfl)
theorem dX53_moves_73 : decode cX53_moves 73 = .ok (.aload_n 0, 1) := dk_42 (dk_at dksX53_moves_3 3 rfl rfl)
theorem dX53_moves_74 : decode cX53_moves 74 = .ok (.getfield 57, 3) := dk_180 0 57 (dk_at dksX53_moves_3 4 rfl rfl)
theorem dX53_moves_77 : decode cX53_moves 77 = .ok (.iload 4, 2) := dk_21 4 (dk_at dksX53_moves_3 7 rfl rfl)
theorem dX53_moves_79 : decode cX53_moves 79 = .ok (.iload 5, 2) := dk_21 5 (dk_at dksX53_moves_3 9 rfl rfl)
theorem dX53_moves_81 : decode cX53_moves 81 = .ok (.ifCond .eq 23, 3) := dk_153 0 23 (dk_at dksX53_moves_3 11 rfl rfl)
theorem dX53_moves_84 : decode cX53_moves 84 = .ok (.aload_n 0, 1) := dk_42 (dk_at dksX53_moves_3 14 rfl rfl)
theorem dX53_moves_85 : decode cX53_moves 85 = .ok (.getfield 54, 3) := dk_180 0 54 (dk_at dksX53_moves_3 15 rfl rfl)
theorem dX53_moves_88 : decode cX53_moves 88 = .ok (.iload 4, 2) := dk_21 4 (dk_at dksX53_moves_3 18 rfl rfl)
theorem dX53_moves_90 : decode cX53_moves 90 = .ok (.baload, 1) := dk_51 (dk_at dksX53_moves_3 20 rfl rfl)
theorem dX53_moves_91 : decode cX53_moves 91 = .ok (.ifCond .ne 9, 3) := dk_154 0 9 (dk_at dksX53_moves_3 21 rfl rfl)
theorem dX53_moves_94 : decode cX53_moves 94 = .ok (.iload 4, 2) := dk_21 4 (dk_at dksX53_moves_4 0 rfl rfl)
theorem dX53_moves_96 : decode cX53_moves 96 = .ok (.iload_n 3, 1) := dk_29 (dk_at dksX53_moves_4 2 rfl rfl)
theorem dX53_moves_97 : decode cX53_moves 97 = .ok (.if_icmp .ne 7, 3) := dk_160 0 7 (dk_at dksX53_moves_4 3 rfl rfl)
theorem dX53_moves_100 : decode cX53_moves 100 = .ok (.iconst 0, 1) := dk_3 (dk_at dksX53_moves_4 6 rfl rfl)
theorem dX53_moves_101 : decode cX53_moves 101 = .ok (.goto 5, 3) := dk_167 0 5 (dk_at dksX53_moves_4 7 rfl rfl)
theorem dX53_moves_104 : decode cX53_moves 104 = .ok (.ldc 159, 2) := dk_18 159 (dk_at dksX53_moves_4 10 rfl rfl)
theorem dX53_moves_106 : decode cX53_moves 106 = .ok (.iastore, 1) := dk_79 (dk_at dksX53_moves_4 12 rfl rfl)
theorem dX53_moves_107 : decode cX53_moves 107 = .ok (.iinc 4 1, 3) := dk_132 4 1 (dk_at dksX53_moves_4 13 rfl rfl)
theorem dX53_moves_110 : decode cX53_moves 110 = .ok (.goto (-66), 3) := dk_167 255 190 (dk_at dksX53_moves_4 16 rfl rfl)
theorem dX53_moves_113 : decode cX53_moves 113 = .ok (.iconst 1, 1) := dk_4 (dk_at dksX53_moves_4 19 rfl rfl)
theorem dX53_moves_114 : decode cX53_moves 114 = .ok (.istore 4, 2) := dk_54 4 (dk_at dksX53_moves_4 20 rfl rfl)
theorem dX53_moves_116 : decode cX53_moves 116 = .ok (.iload 4, 2) := dk_21 4 (dk_at dksX53_moves_4 22 rfl rfl)
theorem dX53_moves_118 : decode cX53_moves 118 = .ok (.ifCond .eq 79, 3) := dk_153 0 79 (dk_at dksX53_moves_5 0 rfl rfl)
theorem dX53_moves_121 : decode cX53_moves 121 = .ok (.iconst 0, 1) := dk_3 (dk_at dksX53_moves_5 3 rfl rfl)
theorem dX53_moves_122 : decode cX53_moves 122 = .ok (.istore 4, 2) := dk_54 4 (dk_at dksX53_moves_5 4 rfl rfl)
theorem dX53_moves_124 : decode cX53_moves 124 = .ok (.iconst 0, 1) := dk_3 (dk_at dksX53_moves_5 6 rfl rfl)
theorem dX53_moves_125 : decode cX53_moves 125 = .ok (.istore 5, 2) := dk_54 5 (dk_at dksX53_moves_5 7 rfl rfl)
theorem dX53_moves_127 : decode cX53_moves 127 = .ok (.iload 5, 2) := dk_21 5 (dk_at dksX53_moves_5 9 rfl rfl)
theorem dX53_moves_129 : decode cX53_moves 129 = .ok (.aload_n 0, 1) := dk_42 (dk_at dksX53_moves_5 11 rfl rfl)
theorem dX53_moves_130 : decode cX53_moves 130 = .ok (.invokevirtual 146, 3) := dk_182 0 146 (dk_at dksX53_moves_5 12 rfl rfl)
theorem dX53_moves_133 : decode cX53_moves 133 = .ok (.if_icmp .ge 61, 3) := dk_162 0 61 (dk_at dksX53_moves_5 15 rfl rfl)
theorem dX53_moves_136 : decode cX53_moves 136 = .ok (.aload_n 0, 1) := dk_42 (dk_at dksX53_moves_5 18 rfl rfl)
theorem dX53_moves_137 : decode cX53_moves 137 = .ok (.getfield 54, 3) := dk_180 0 54 (dk_at dksX53_moves_5 19 rfl rfl)
theorem dX53_moves_140 : decode cX53_moves 140 = .ok (.iload 5, 2) := dk_21 5 (dk_at dksX53_moves_5 22 rfl rfl)
theorem dX53_moves_142 : decode cX53_moves 142 = .ok (.baload, 1) := dk_51 (dk_at dksX53_moves_6 0 rfl rfl)
theorem dX53_moves_143 : decode cX53_moves 143 = .ok (.ifCond .ne 9, 3) := dk_154 0 9 (dk_at dksX53_moves_6 1 rfl rfl)
theorem dX53_moves_146 : decode cX53_moves 146 = .ok (.iload 5, 2) := dk_21 5 (dk_at dksX53_moves_6 4 rfl rfl)
theorem dX53_moves_148 : decode cX53_moves 148 = .ok (.iload_n 3, 1) := dk_29 (dk_at dksX53_moves_6 6 rfl rfl)
theorem dX53_moves_149 : decode cX53_moves 149 = .ok (.if_icmp .ne 39, 3) := dk_160 0 39 (dk_at dksX53_moves_6 7 rfl rfl)
theorem dX53_moves_152 : decode cX53_moves 152 = .ok (.aload_n 0, 1) := dk_42 (dk_at dksX53_moves_6 10 rfl rfl)
theorem dX53_moves_153 : decode cX53_moves 153 = .ok (.iload 5, 2) := dk_21 5 (dk_at dksX53_moves_6 11 rfl rfl)
theorem dX53_moves_155 : decode cX53_moves 155 = .ok (.invokevirtual 160, 3) := dk_182 0 160 (dk_at dksX53_moves_6 13 rfl rfl)
theorem dX53_moves_158 : decode cX53_moves 158 = .ok (.istore 6, 2) := dk_54 6 (dk_at dksX53_moves_6 16 rfl rfl)
theorem dX53_moves_160 : decode cX53_moves 160 = .ok (.iload 6, 2) := dk_21 6 (dk_at dksX53_moves_6 18 rfl rfl)
theorem dX53_moves_162 : decode cX53_moves 162 = .ok (.iconst 1, 1) := dk_4 (dk_at dksX53_moves_6 20 rfl rfl)
theorem dX53_moves_163 : decode cX53_moves 163 = .ok (.iadd, 1) := dk_96 (dk_at dksX53_moves_6 21 rfl rfl)
theorem dX53_moves_164 : decode cX53_moves 164 = .ok (.aload_n 0, 1) := dk_42 (dk_at dksX53_moves_6 22 rfl rfl)
theorem dX53_moves_165 : decode cX53_moves 165 = .ok (.getfield 57, 3) := dk_180 0 57 (dk_at dksX53_moves_7 0 rfl rfl)
theorem dX53_moves_168 : decode cX53_moves 168 = .ok (.iload 5, 2) := dk_21 5 (dk_at dksX53_moves_7 3 rfl rfl)
theorem dX53_moves_170 : decode cX53_moves 170 = .ok (.iaload, 1) := dk_46 (dk_at dksX53_moves_7 5 rfl rfl)
theorem dX53_moves_171 : decode cX53_moves 171 = .ok (.if_icmp .ge 17, 3) := dk_162 0 17 (dk_at dksX53_moves_7 6 rfl rfl)
theorem dX53_moves_174 : decode cX53_moves 174 = .ok (.aload_n 0, 1) := dk_42 (dk_at dksX53_moves_7 9 rfl rfl)
theorem dX53_moves_175 : decode cX53_moves 175 = .ok (.getfield 57, 3) := dk_180 0 57 (dk_at dksX53_moves_7 10 rfl rfl)
theorem dX53_moves_178 : decode cX53_moves 178 = .ok (.iload 5, 2) := dk_21 5 (dk_at dksX53_moves_7 13 rfl rfl)
theorem dX53_moves_180 : decode cX53_moves 180 = .ok (.iload 6, 2) := dk_21 6 (dk_at dksX53_moves_7 15 rfl rfl)
theorem dX53_moves_182 : decode cX53_moves 182 = .ok (.iconst 1, 1) := dk_4 (dk_at dksX53_moves_7 17 rfl rfl)
theorem dX53_moves_183 : decode cX53_moves 183 = .ok (.iadd, 1) := dk_96 (dk_at dksX53_moves_7 18 rfl rfl)
theorem dX53_moves_184 : decode cX53_moves 184 = .ok (.iastore, 1) := dk_79 (dk_at dksX53_moves_7 19 rfl rfl)
theorem dX53_moves_185 : decode cX53_moves 185 = .ok (.iconst 1, 1) := dk_4 (dk_at dksX53_moves_7 20 rfl rfl)
theorem dX53_moves_186 : decode cX53_moves 186 = .ok (.istore 4, 2) := dk_54 4 (dk_at dksX53_moves_7 21 rfl rfl)
theorem dX53_moves_188 : decode cX53_moves 188 = .ok (.iinc 5 1, 3) := dk_132 5 1 (dk_at dksX53_moves_8 0 rfl rfl)
theorem dX53_moves_191 : decode cX53_moves 191 = .ok (.goto (-64), 3) := dk_167 255 192 (dk_at dksX53_moves_8 3 rfl rfl)
theorem dX53_moves_194 : decode cX53_moves 194 = .ok (.goto (-78), 3) := dk_167 255 178 (dk_at dksX53_moves_8 6 rfl rfl)
theorem dX53_moves_197 : decode cX53_moves 197 = .ok (.aload_n 0, 1) := dk_42 (dk_at dksX53_moves_8 9 rfl rfl)
theorem dX53_moves_198 : decode cX53_moves 198 = .ok (.getfield 57, 3) := dk_180 0 57 (dk_at dksX53_moves_8 10 rfl rfl)
theorem dX53_moves_201 : decode cX53_moves 201 = .ok (.iload_n 3, 1) := dk_29 (dk_at dksX53_moves_8 13 rfl rfl)
theorem dX53_moves_202 : decode cX53_moves 202 = .ok (.iaload, 1) := dk_46 (dk_at dksX53_moves_8 14 rfl rfl)
theorem dX53_moves_203 : decode cX53_moves 203 = .ok (.ldc 159, 2) := dk_18 159 (dk_at dksX53_moves_8 15 rfl rfl)
theorem dX53_moves_205 : decode cX53_moves 205 = .ok (.if_icmp .lt 5, 3) := dk_161 0 5 (dk_at dksX53_moves_8 17 rfl rfl)
theorem dX53_moves_208 : decode cX53_moves 208 = .ok (.iconst (-1), 1) := dk_2 (dk_at dksX53_moves_8 20 rfl rfl)
theorem dX53_moves_209 : decode cX53_moves 209 = .ok (.ireturn, 1) := dk_172 (dk_at dksX53_moves_8 21 rfl rfl)
theorem dX53_moves_210 : decode cX53_moves 210 = .ok (.aload_n 0, 1) := dk_42 (dk_at dksX53_moves_8 22 rfl rfl)
theorem dX53_moves_211 : decode cX53_moves 211 = .ok (.iconst 0, 1) := dk_3 (dk_at dksX53_moves_8 23 rfl rfl)
theorem dX53_moves_212 : decode cX53_moves 212 = .ok (.putfield 69, 3) := dk_181 0 69 (dk_at dksX53_moves_9 0 rfl rfl)
theorem dX53_moves_215 : decode cX53_moves 215 = .ok (.iload_n 3, 1) := dk_29 (dk_at dksX53_moves_9 3 rfl rfl)
theorem dX53_moves_216 : decode cX53_moves 216 = .ok (.istore 5, 2) := dk_54 5 (dk_at dksX53_moves_9 4 rfl rfl)
theorem dX53_moves_218 : decode cX53_moves 218 = .ok (.aload_n 0, 1) := dk_42 (dk_at dksX53_moves_9 6 rfl rfl)
theorem dX53_moves_219 : decode cX53_moves 219 = .ok (.getfield 57, 3) := dk_180 0 57 (dk_at dksX53_moves_9 7 rfl rfl)
theorem dX53_moves_222 : decode cX53_moves 222 = .ok (.iload 5, 2) := dk_21 5 (dk_at dksX53_moves_9 10 rfl rfl)
theorem dX53_moves_224 : decode cX53_moves 224 = .ok (.iaload, 1) := dk_46 (dk_at dksX53_moves_9 12 rfl rfl)
theorem dX53_moves_225 : decode cX53_moves 225 = .ok (.ifCond .le 14, 3) := dk_158 0 14 (dk_at dksX53_moves_9 13 rfl rfl)
theorem dX53_moves_228 : decode cX53_moves 228 = .ok (.aload_n 0, 1) := dk_42 (dk_at dksX53_moves_9 16 rfl rfl)
theorem dX53_moves_229 : decode cX53_moves 229 = .ok (.iload 5, 2) := dk_21 5 (dk_at dksX53_moves_9 17 rfl rfl)
theorem dX53_moves_231 : decode cX53_moves 231 = .ok (.invokevirtual 164, 3) := dk_182 0 164 (dk_at dksX53_moves_9 19 rfl rfl)
theorem dX53_moves_234 : decode cX53_moves 234 = .ok (.istore 5, 2) := dk_54 5 (dk_at dksX53_moves_9 22 rfl rfl)
theorem dX53_moves_236 : decode cX53_moves 236 = .ok (.goto (-18), 3) := dk_167 255 238 (dk_at dksX53_moves_10 0 rfl rfl)
theorem dX53_moves_239 : decode cX53_moves 239 = .ok (.aload_n 0, 1) := dk_42 (dk_at dksX53_moves_10 3 rfl rfl)
theorem dX53_moves_240 : decode cX53_moves 240 = .ok (.getfield 69, 3) := dk_180 0 69 (dk_at dksX53_moves_10 4 rfl rfl)
theorem dX53_moves_243 : decode cX53_moves 243 = .ok (.ireturn, 1) := dk_172 (dk_at dksX53_moves_10 7 rfl rfl)
abbrev cX53_judgeAll : ByteArray := prog_58_method_26_code
def yX53_judgeAll : MethodName := ⟨RX53, "judgeAll", "()V"⟩
def dkwX53_judgeAll_5 : List UInt8 := [3, 84, 132, 1, 1, 167, 255, 136, 177]
abbrev dktX53_judgeAll_5 : List UInt8 := dkwX53_judgeAll_5 ++ []
def dkwX53_judgeAll_4 : List UInt8 := [42, 180, 0, 54, 27, 28, 153, 0, 18, 42, 42, 180, 0, 60, 182, 0, 124, 153, 0, 7, 4, 167, 0, 4]
abbrev dktX53_judgeAll_4 : List UInt8 := dkwX53_judgeAll_4 ++ dktX53_judgeAll_5
def dkwX53_judgeAll_3 : List UInt8 := [153, 0, 12, 42, 180, 0, 60, 29, 46, 156, 0, 7, 4, 167, 0, 4, 3, 61, 132, 3, 1, 167, 255, 180]
abbrev dktX53_judgeAll_3 : List UInt8 := dkwX53_judgeAll_3 ++ dktX53_judgeAll_4
def dkwX53_judgeAll_2 : List UInt8 := [153, 0, 38, 42, 180, 0, 60, 29, 46, 42, 180, 0, 78, 162, 0, 25, 42, 180, 0, 29, 29, 51]
abbrev dktX53_judgeAll_2 : List UInt8 := dkwX53_judgeAll_2 ++ dktX53_judgeAll_3
def dkwX53_judgeAll_1 : List UInt8 := [29, 29, 42, 180, 0, 81, 162, 0, 14, 42, 27, 29, 182, 0, 150, 4, 100, 167, 0, 4, 2, 79, 28]
abbrev dktX53_judgeAll_1 : List UInt8 := dkwX53_judgeAll_1 ++ dktX53_judgeAll_2
def dkwX53_judgeAll_0 : List UInt8 := [3, 60, 27, 42, 182, 0, 146, 162, 0, 118, 4, 61, 3, 62, 29, 16, 6, 162, 0, 76, 42, 180, 0, 60]
abbrev dktX53_judgeAll_0 : List UInt8 := dkwX53_judgeAll_0 ++ dktX53_judgeAll_1
theorem dksX53_judgeAll_0 : cX53_judgeAll.data.toList.drop 0 = dktX53_judgeAll_0 := by decide +kernel
theorem dksX53_judgeAll_1 : cX53_judgeAll.data.toList.drop 24 = dktX53_judgeAll_1 := dk_seg dksX53_judgeAll_0 24 rfl rfl
theorem dksX53_judgeAll_2 : cX53_judgeAll.data.toList.drop 47 = dktX53_judgeAll_2 := dk_seg dksX53_judgeAll_1 23 rfl rfl
theorem dksX53_judgeAll_3 : cX53_judgeAll.data.toList.drop 69 = dktX53_judgeAll_3 := dk_seg dksX53_judgeAll_2 22 rfl rfl
theorem dksX53_judgeAll_4 : cX53_judgeAll.data.toList.drop 93 = dktX53_judgeAll_4 := dk_seg dksX53_judgeAll_3 24 rfl rfl
theorem dksX53_judgeAll_5 : cX53_judgeAll.data.toList.drop 117 = dktX53_judgeAll_5 := dk_seg dksX53_judgeAll_4 24 rfl rfl
theorem dX53_judgeAll_0 : decode cX53_judgeAll 0 = .ok (.iconst 0, 1) := dk_3 (dk_at dksX53_judgeAll_0 0 rfl rfl)
theorem dX53_judgeAll_1 : decode cX53_judgeAll 1 = .ok (.istore_n 1, 1) := dk_60 (dk_at dksX53_judgeAll_0 1 rfl rfl)
theorem dX53_judgeAll_2 : decode cX53_judgeAll 2 = .ok (.iload_n 1, 1) := dk_27 (dk_at dksX53_judgeAll_0 2 rfl rfl)
theorem dX53_judgeAll_3 : decode cX53_judgeAll 3 = .ok (.aload_n 0, 1) := dk_42 (dk_at dksX53_judgeAll_0 3 rfl rfl)
theorem dX53_judgeAll_4 : decode cX53_judgeAll 4 = .ok (.invokevirtual 146, 3) := dk_182 0 146 (dk_at dksX53_judgeAll_0 4 rfl rfl)
theorem dX53_judgeAll_7 : decode cX53_judgeAll 7 = .ok (.if_icmp .ge 118, 3) := dk_162 0 118 (dk_at dksX53_judgeAll_0 7 rfl rfl)
theorem dX53_judgeAll_10 : decode cX53_judgeAll 10 = .ok (.iconst 1, 1) := dk_4 (dk_at dksX53_judgeAll_0 10 rfl rfl)
theorem dX53_judgeAll_11 : decode cX53_judgeAll 11 = .ok (.istore_n 2, 1) := dk_61 (dk_at dksX53_judgeAll_0 11 rfl rfl)
theorem dX53_judgeAll_12 : decode cX53_judgeAll 12 = .ok (.iconst 0, 1) := dk_3 (dk_at dksX53_judgeAll_0 12 rfl rfl)
theorem dX53_judgeAll_13 : decode cX53_judgeAll 13 = .ok (.istore_n 3, 1) := dk_62 (dk_at dksX53_judgeAll_0 13 rfl rfl)
theorem dX53_judgeAll_14 : decode cX53_judgeAll 14 = .ok (.iload_n 3, 1) := dk_29 (dk_at dksX53_judgeAll_0 14 rfl rfl)
theorem dX53_judgeAll_15 : decode cX53_judgeAll 15 = .ok (.bipush 6, 2) := dk_16 6 (dk_at dksX53_judgeAll_0 15 rfl rfl)
theorem dX53_judgeAll_17 : decode cX53_judgeAll 17 = .ok (.if_icmp .ge 76, 3) := dk_162 0 76 (dk_at dksX53_judgeAll_0 17 rfl rfl)
theorem dX53_judgeAll_20 : decode cX53_judgeAll 20 = .ok (.aload_n 0, 1) := dk_42 (dk_at dksX53_judgeAll_0 20 rfl rfl)
theorem dX53_judgeAll_21 : decode cX53_judgeAll 21 = .ok (.getfield 60, 3) := dk_180 0 60 (dk_at dksX53_judgeAll_0 21 rfl rfl)
theorem dX53_judgeAll_24 : decode cX53_judgeAll 24 = .ok (.iload_n 3, 1) := dk_29 (dk_at dksX53_judgeAll_1 0 rfl rfl)
theorem dX53_judgeAll_25 : decode cX53_judgeAll 25 = .ok (.iload_n 3, 1) := dk_29 (dk_at dksX53_judgeAll_1 1 rfl rfl)
theorem dX53_judgeAll_26 : decode cX53_judgeAll 26 = .ok (.aload_n 0, 1) := dk_42 (dk_at dksX53_judgeAll_1 2 rfl rfl)
theorem dX53_judgeAll_27 : decode cX53_judgeAll 27 = .ok (.getfield 81, 3) := dk_180 0 81 (dk_at dksX53_judgeAll_1 3 rfl rfl)
theorem dX53_judgeAll_30 : decode cX53_judgeAll 30 = .ok (.if_icmp .ge 14, 3) := dk_162 0 14 (dk_at dksX53_judgeAll_1 6 rfl rfl)
theorem dX53_judgeAll_33 : decode cX53_judgeAll 33 = .ok (.aload_n 0, 1) := dk_42 (dk_at dksX53_judgeAll_1 9 rfl rfl)
theorem dX53_judgeAll_34 : decode cX53_judgeAll 34 = .ok (.iload_n 1, 1) := dk_27 (dk_at dksX53_judgeAll_1 10 rfl rfl)
theorem dX53_judgeAll_35 : decode cX53_judgeAll 35 = .ok (.iload_n 3, 1) := dk_29 (dk_at dksX53_judgeAll_1 11 rfl rfl)
theorem dX53_judgeAll_36 : decode cX53_judgeAll 36 = .ok (.invokevirtual 150, 3) := dk_182 0 150 (dk_at dksX53_judgeAll_1 12 rfl rfl)
theorem dX53_judgeAll_39 : decode cX53_judgeAll 39 = .ok (.iconst 1, 1) := dk_4 (dk_at dksX53_judgeAll_1 15 rfl rfl)
theorem dX53_judgeAll_40 : decode cX53_judgeAll 40 = .ok (.isub, 1) := dk_100 (dk_at dksX53_judgeAll_1 16 rfl rfl)
theorem dX53_judgeAll_41 : decode cX53_judgeAll 41 = .ok (.goto 4, 3) := dk_167 0 4 (dk_at dksX53_judgeAll_1 17 rfl rfl)
theorem dX53_judgeAll_44 : decode cX53_judgeAll 44 = .ok (.iconst (-1), 1) := dk_2 (dk_at dksX53_judgeAll_1 20 rfl rfl)
theorem dX53_judgeAll_45 : decode cX53_judgeAll 45 = .ok (.iastore, 1) := dk_79 (dk_at dksX53_judgeAll_1 21 rfl rfl)
theorem dX53_judgeAll_46 : decode cX53_judgeAll 46 = .ok (.iload_n 2, 1) := dk_28 (dk_at dksX53_judgeAll_1 22 rfl rfl)
theorem dX53_judgeAll_47 : decode cX53_judgeAll 47 = .ok (.ifCond .eq 38, 3) := dk_153 0 38 (dk_at dksX53_judgeAll_2 0 rfl rfl)
theorem dX53_judgeAll_50 : decode cX53_judgeAll 50 = .ok (.aload_n 0, 1) := dk_42 (dk_at dksX53_judgeAll_2 3 rfl rfl)
theorem dX53_judgeAll_51 : decode cX53_judgeAll 51 = .ok (.getfield 60, 3) := dk_180 0 60 (dk_at dksX53_judgeAll_2 4 rfl rfl)
theorem dX53_judgeAll_54 : decode cX53_judgeAll 54 = .ok (.iload_n 3, 1) := dk_29 (dk_at dksX53_judgeAll_2 7 rfl rfl)
theorem dX53_judgeAll_55 : decode cX53_judgeAll 55 = .ok (.iaload, 1) := dk_46 (dk_at dksX53_judgeAll_2 8 rfl rfl)
theorem dX53_judgeAll_56 : decode cX53_judgeAll 56 = .ok (.aload_n 0, 1) := dk_42 (dk_at dksX53_judgeAll_2 9 rfl rfl)
theorem dX53_judgeAll_57 : decode cX53_judgeAll 57 = .ok (.getfield 78, 3) := dk_180 0 78 (dk_at dksX53_judgeAll_2 10 rfl rfl)
theorem dX53_judgeAll_60 : decode cX53_judgeAll 60 = .ok (.if_icmp .ge 25, 3) := dk_162 0 25 (dk_at dksX53_judgeAll_2 13 rfl rfl)
theorem dX53_judgeAll_63 : decode cX53_judgeAll 63 = .ok (.aload_n 0, 1) := dk_42 (dk_at dksX53_judgeAll_2 16 rfl rfl)
theorem dX53_judgeAll_64 : decode cX53_judgeAll 64 = .ok (.getfield 29, 3) := dk_180 0 29 (dk_at dksX53_judgeAll_2 17 rfl rfl)
theorem dX53_judgeAll_67 : decode cX53_judgeAll 67 = .ok (.iload_n 3, 1) := dk_29 (dk_at dksX53_judgeAll_2 20 rfl rfl)
theorem dX53_judgeAll_68 : decode cX53_judgeAll 68 = .ok (.baload, 1) := dk_51 (dk_at dksX53_judgeAll_2 21 rfl rfl)
theorem dX53_judgeAll_69 : decode cX53_judgeAll 69 = .ok (.ifCond .eq 12, 3) := dk_153 0 12 (dk_at dksX53_judgeAll_3 0 rfl rfl)
theorem dX53_judgeAll_72 : decode cX53_judgeAll 72 = .ok (.aload_n 0, 1) := dk_42 (dk_at dksX53_judgeAll_3 3 rfl rfl)
theorem dX53_judgeAll_73 : decode cX53_judgeAll 73 = .ok (.getfield 60, 3) := dk_180 0 60 (dk_at dksX53_judgeAll_3 4 rfl rfl)
theorem dX53_judgeAll_76 : decode cX53_judgeAll 76 = .ok (.iload_n 3, 1) := dk_29 (dk_at dksX53_judgeAll_3 7 rfl rfl)
theorem dX53_judgeAll_77 : decode cX53_judgeAll 77 = .ok (.iaload, 1) := dk_46 (dk_at dksX53_judgeAll_3 8 rfl rfl)
theorem dX53_judgeAll_78 : decode cX53_judgeAll 78 = .ok (.ifCond .ge 7, 3) := dk_156 0 7 (dk_at dksX53_judgeAll_3 9 rfl rfl)
theorem dX53_judgeAll_81 : decode cX53_judgeAll 81 = .ok (.iconst 1, 1) := dk_4 (dk_at dksX53_judgeAll_3 12 rfl rfl)
theorem dX53_judgeAll_82 : decode cX53_judgeAll 82 = .ok (.goto 4, 3) := dk_167 0 4 (dk_at dksX53_judgeAll_3 13 rfl rfl)
theorem dX53_judgeAll_85 : decode cX53_judgeAll 85 = .ok (.iconst 0, 1) := dk_3 (dk_at dksX53_judgeAll_3 16 rfl rfl)
theorem dX53_judgeAll_86 : decode cX53_judgeAll 86 = .ok (.istore_n 2, 1) := dk_61 (dk_at dksX53_judgeAll_3 17 rfl rfl)
theorem dX53_judgeAll_87 : decode cX53_judgeAll 87 = .ok (.iinc 3 1, 3) := dk_132 3 1 (dk_at dksX53_judgeAll_3 18 rfl rfl)
theorem dX53_judgeAll_90 : decode cX53_judgeAll 90 = .ok (.goto (-76), 3) := dk_167 255 180 (dk_at dksX53_judgeAll_3 21 rfl rfl)
theorem dX53_judgeAll_93 : decode cX53_judgeAll 93 = .ok (.aload_n 0, 1) := dk_42 (dk_at dksX53_judgeAll_4 0 rfl rfl)
theorem dX53_judgeAll_94 : decode cX53_judgeAll 94 = .ok (.getfield 54, 3) := dk_180 0 54 (dk_at dksX53_judgeAll_4 1 rfl rfl)
theorem dX53_judgeAll_97 : decode cX53_judgeAll 97 = .ok (.iload_n 1, 1) := dk_27 (dk_at dksX53_judgeAll_4 4 rfl rfl)
theorem dX53_judgeAll_98 : decode cX53_judgeAll 98 = .ok (.iload_n 2, 1) := dk_28 (dk_at dksX53_judgeAll_4 5 rfl rfl)
theorem dX53_judgeAll_99 : decode cX53_judgeAll 99 = .ok (.ifCond .eq 18, 3) := dk_153 0 18 (dk_at dksX53_judgeAll_4 6 rfl rfl)
theorem dX53_judgeAll_102 : decode cX53_judgeAll 102 = .ok (.aload_n 0, 1) := dk_42 (dk_at dksX53_judgeAll_4 9 rfl rfl)
theorem dX53_judgeAll_103 : decode cX53_judgeAll 103 = .ok (.aload_n 0, 1) := dk_42 (dk_at dksX53_judgeAll_4 10 rfl rfl)
theorem dX53_judgeAll_104 : decode cX53_judgeAll 104 = .ok (.getfield 60, 3) := dk_180 0 60 (dk_at dksX53_judgeAll_4 11 rfl rfl)
theorem dX53_judgeAll_107 : decode cX53_judgeAll 107 = .ok (.invokevirtual 124, 3) := dk_182 0 124 (dk_at dksX53_judgeAll_4 14 rfl rfl)
theorem dX53_judgeAll_110 : decode cX53_judgeAll 110 = .ok (.ifCond .eq 7, 3) := dk_153 0 7 (dk_at dksX53_judgeAll_4 17 rfl rfl)
theorem dX53_judgeAll_113 : decode cX53_judgeAll 113 = .ok (.iconst 1, 1) := dk_4 (dk_at dksX53_judgeAll_4 20 rfl rfl)
theorem dX53_judgeAll_114 : decode cX53_judgeAll 114 = .ok (.goto 4, 3) := dk_167 0 4 (dk_at dksX53_judgeAll_4 21 rfl rfl)
theorem dX53_judgeAll_117 : decode cX53_judgeAll 117 = .ok (.iconst 0, 1) := dk_3 (dk_at dksX53_judgeAll_5 0 rfl rfl)
theorem dX53_judgeAll_118 : decode cX53_judgeAll 118 = .ok (.bastore, 1) := dk_84 (dk_at dksX53_judgeAll_5 1 rfl rfl)
theorem dX53_judgeAll_119 : decode cX53_judgeAll 119 = .ok (.iinc 1 1, 3) := dk_132 1 1 (dk_at dksX53_judgeAll_5 2 rfl rfl)
theorem dX53_judgeAll_122 : decode cX53_judgeAll 122 = .ok (.goto (-120), 3) := dk_167 255 136 (dk_at dksX53_judgeAll_5 5 rfl rfl)
theorem dX53_judgeAll_125 : decode cX53_judgeAll 125 = .ok (.return_, 1) := dk_177 (dk_at dksX53_judgeAll_5 8 rfl rfl)
abbrev cX53_statesOfLoads : ByteArray := prog_58_method_25_code
def yX53_statesOfLoads : MethodName := ⟨RX53, "statesOfLoads", "()I"⟩
def dkwX53_statesOfLoads_0 : List UInt8 := [42, 180, 0, 73, 42, 180, 0, 81, 46, 172]
abbrev dktX53_statesOfLoads_0 : List UInt8 := dkwX53_statesOfLoads_0 ++ []
theorem dksX53_statesOfLoads_0 : cX53_statesOfLoads.data.toList.drop 0 = dktX53_statesOfLoads_0 := by decide +kernel
theorem dX53_statesOfLoads_0 : decode cX53_statesOfLoads 0 = .ok (.aload_n 0, 1) := dk_42 (dk_at dksX53_statesOfLoads_0 0 rfl rfl)
theorem dX53_statesOfLoads_1 : decode cX53_statesOfLoads 1 = .ok (.getfield 73, 3) := dk_180 0 73 (dk_at dksX53_statesOfLoads_0 1 rfl rfl)
theorem dX53_statesOfLoads_4 : decode cX53_statesOfLoads 4 = .ok (.aload_n 0, 1) := dk_42 (dk_at dksX53_statesOfLoads_0 4 rfl rfl)
theorem dX53_statesOfLoads_5 : decode cX53_statesOfLoads 5 = .ok (.getfield 81, 3) := dk_180 0 81 (dk_at dksX53_statesOfLoads_0 5 rfl rfl)
theorem dX53_statesOfLoads_8 : decode cX53_statesOfLoads 8 = .ok (.iaload, 1) := dk_46 (dk_at dksX53_statesOfLoads_0 8 rfl rfl)
theorem dX53_statesOfLoads_9 : decode cX53_statesOfLoads 9 = .ok (.ireturn, 1) := dk_172 (dk_at dksX53_statesOfLoads_0 9 rfl rfl)
abbrev cX53_digit : ByteArray := prog_58_method_23_code
def yX53_digit : MethodName := ⟨RX53, "digit", "(II)I"⟩
def dkwX53_digit_0 : List UInt8 := [27, 42, 180, 0, 73, 28, 46, 108, 8, 112, 172]
abbrev dktX53_digit_0 : List UInt8 := dkwX53_digit_0 ++ []
theorem dksX53_digit_0 : cX53_digit.data.toList.drop 0 = dktX53_digit_0 := by decide +kernel
theorem dX53_digit_0 : decode cX53_digit 0 = .ok (.iload_n 1, 1) := dk_27 (dk_at dksX53_digit_0 0 rfl rfl)
theorem dX53_digit_1 : decode cX53_digit 1 = .ok (.aload_n 0, 1) := dk_42 (dk_at dksX53_digit_0 1 rfl rfl)
theorem dX53_digit_2 : decode cX53_digit 2 = .ok (.getfield 73, 3) := dk_180 0 73 (dk_at dksX53_digit_0 2 rfl rfl)
theorem dX53_digit_5 : decode cX53_digit 5 = .ok (.iload_n 2, 1) := dk_28 (dk_at dksX53_digit_0 5 rfl rfl)
theorem dX53_digit_6 : decode cX53_digit 6 = .ok (.iaload, 1) := dk_46 (dk_at dksX53_digit_0 6 rfl rfl)
theorem dX53_digit_7 : decode cX53_digit 7 = .ok (.idiv, 1) := dk_108 (dk_at dksX53_digit_0 7 rfl rfl)
theorem dX53_digit_8 : decode cX53_digit 8 = .ok (.iconst 5, 1) := dk_8 (dk_at dksX53_digit_0 8 rfl rfl)
theorem dX53_digit_9 : decode cX53_digit 9 = .ok (.irem, 1) := dk_112 (dk_at dksX53_digit_0 9 rfl rfl)
theorem dX53_digit_10 : decode cX53_digit 10 = .ok (.ireturn, 1) := dk_172 (dk_at dksX53_digit_0 10 rfl rfl)
abbrev cX53_stateNow : ByteArray := prog_58_method_24_code
def yX53_stateNow : MethodName := ⟨RX53, "stateNow", "()I"⟩
def dkwX53_stateNow_1 : List UInt8 := [180, 0, 73, 28, 46, 104, 96, 60, 132, 2, 1, 167, 255, 227, 27, 172]
abbrev dktX53_stateNow_1 : List UInt8 := dkwX53_stateNow_1 ++ []
def dkwX53_stateNow_0 : List UInt8 := [3, 60, 3, 61, 28, 42, 180, 0, 81, 162, 0, 27, 27, 42, 180, 0, 33, 28, 46, 4, 96, 42]
abbrev dktX53_stateNow_0 : List UInt8 := dkwX53_stateNow_0 ++ dktX53_stateNow_1
theorem dksX53_stateNow_0 : cX53_stateNow.data.toList.drop 0 = dktX53_stateNow_0 := by decide +kernel
theorem dksX53_stateNow_1 : cX53_stateNow.data.toList.drop 22 = dktX53_stateNow_1 := dk_seg dksX53_stateNow_0 22 rfl rfl
theorem dX53_stateNow_0 : decode cX53_stateNow 0 = .ok (.iconst 0, 1) := dk_3 (dk_at dksX53_stateNow_0 0 rfl rfl)
theorem dX53_stateNow_1 : decode cX53_stateNow 1 = .ok (.istore_n 1, 1) := dk_60 (dk_at dksX53_stateNow_0 1 rfl rfl)
theorem dX53_stateNow_2 : decode cX53_stateNow 2 = .ok (.iconst 0, 1) := dk_3 (dk_at dksX53_stateNow_0 2 rfl rfl)
theorem dX53_stateNow_3 : decode cX53_stateNow 3 = .ok (.istore_n 2, 1) := dk_61 (dk_at dksX53_stateNow_0 3 rfl rfl)
theorem dX53_stateNow_4 : decode cX53_stateNow 4 = .ok (.iload_n 2, 1) := dk_28 (dk_at dksX53_stateNow_0 4 rfl rfl)
theorem dX53_stateNow_5 : decode cX53_stateNow 5 = .ok (.aload_n 0, 1) := dk_42 (dk_at dksX53_stateNow_0 5 rfl rfl)
theorem dX53_stateNow_6 : decode cX53_stateNow 6 = .ok (.getfield 81, 3) := dk_180 0 81 (dk_at dksX53_stateNow_0 6 rfl rfl)
theorem dX53_stateNow_9 : decode cX53_stateNow 9 = .ok (.if_icmp .ge 27, 3) := dk_162 0 27 (dk_at dksX53_stateNow_0 9 rfl rfl)
theorem dX53_stateNow_12 : decode cX53_stateNow 12 = .ok (.iload_n 1, 1) := dk_27 (dk_at dksX53_stateNow_0 12 rfl rfl)
theorem dX53_stateNow_13 : decode cX53_stateNow 13 = .ok (.aload_n 0, 1) := dk_42 (dk_at dksX53_stateNow_0 13 rfl rfl)
theorem dX53_stateNow_14 : decode cX53_stateNow 14 = .ok (.getfield 33, 3) := dk_180 0 33 (dk_at dksX53_stateNow_0 14 rfl rfl)
theorem dX53_stateNow_17 : decode cX53_stateNow 17 = .ok (.iload_n 2, 1) := dk_28 (dk_at dksX53_stateNow_0 17 rfl rfl)
theorem dX53_stateNow_18 : decode cX53_stateNow 18 = .ok (.iaload, 1) := dk_46 (dk_at dksX53_stateNow_0 18 rfl rfl)
theorem dX53_stateNow_19 : decode cX53_stateNow 19 = .ok (.iconst 1, 1) := dk_4 (dk_at dksX53_stateNow_0 19 rfl rfl)
theorem dX53_stateNow_20 : decode cX53_stateNow 20 = .ok (.iadd, 1) := dk_96 (dk_at dksX53_stateNow_0 20 rfl rfl)
theorem dX53_stateNow_21 : decode cX53_stateNow 21 = .ok (.aload_n 0, 1) := dk_42 (dk_at dksX53_stateNow_0 21 rfl rfl)
theorem dX53_stateNow_22 : decode cX53_stateNow 22 = .ok (.getfield 73, 3) := dk_180 0 73 (dk_at dksX53_stateNow_1 0 rfl rfl)
theorem dX53_stateNow_25 : decode cX53_stateNow 25 = .ok (.iload_n 2, 1) := dk_28 (dk_at dksX53_stateNow_1 3 rfl rfl)
theorem dX53_stateNow_26 : decode cX53_stateNow 26 = .ok (.iaload, 1) := dk_46 (dk_at dksX53_stateNow_1 4 rfl rfl)
theorem dX53_stateNow_27 : decode cX53_stateNow 27 = .ok (.imul, 1) := dk_104 (dk_at dksX53_stateNow_1 5 rfl rfl)
theorem dX53_stateNow_28 : decode cX53_stateNow 28 = .ok (.iadd, 1) := dk_96 (dk_at dksX53_stateNow_1 6 rfl rfl)
theorem dX53_stateNow_29 : decode cX53_stateNow 29 = .ok (.istore_n 1, 1) := dk_60 (dk_at dksX53_stateNow_1 7 rfl rfl)
theorem dX53_stateNow_30 : decode cX53_stateNow 30 = .ok (.iinc 2 1, 3) := dk_132 2 1 (dk_at dksX53_stateNow_1 8 rfl rfl)
theorem dX53_stateNow_33 : decode cX53_stateNow 33 = .ok (.goto (-29), 3) := dk_167 255 227 (dk_at dksX53_stateNow_1 11 rfl rfl)
theorem dX53_stateNow_36 : decode cX53_stateNow 36 = .ok (.iload_n 1, 1) := dk_27 (dk_at dksX53_stateNow_1 14 rfl rfl)
theorem dX53_stateNow_37 : decode cX53_stateNow 37 = .ok (.ireturn, 1) := dk_172 (dk_at dksX53_stateNow_1 15 rfl rfl)
abbrev cX53_leastBehind : ByteArray := prog_58_method_28_code
def yX53_leastBehind : MethodName := ⟨RX53, "leastBehind", "(I)I"⟩
def dkwX53_leastBehind_4 : List UInt8 := [28, 61, 132, 4, 1, 167, 255, 176, 132, 3, 1, 167, 255, 159, 28, 172]
abbrev dktX53_leastBehind_4 : List UInt8 := dkwX53_leastBehind_4 ++ []
def dkwX53_leastBehind_3 : List UInt8 := [153, 0, 24, 42, 180, 0, 57, 21, 5, 46, 28, 162, 0, 13, 42, 180, 0, 57, 21, 5, 46, 167, 0, 4]
abbrev dktX53_leastBehind_3 : List UInt8 := dkwX53_leastBehind_3 ++ dktX53_leastBehind_4
def dkwX53_leastBehind_2 : List UInt8 := [180, 0, 73, 29, 46, 104, 96, 54, 5, 21, 5, 27, 159, 0, 34, 42, 180, 0, 54, 21, 5, 51]
abbrev dktX53_leastBehind_2 : List UInt8 := dkwX53_leastBehind_2 ++ dktX53_leastBehind_3
def dkwX53_leastBehind_1 : List UInt8 := [163, 0, 77, 42, 180, 0, 29, 29, 51, 154, 0, 68, 27, 21, 4, 42, 27, 29, 182, 0, 150, 100, 42]
abbrev dktX53_leastBehind_1 : List UInt8 := dkwX53_leastBehind_1 ++ dktX53_leastBehind_2
def dkwX53_leastBehind_0 : List UInt8 := [18, 159, 61, 3, 62, 29, 42, 180, 0, 81, 162, 0, 95, 3, 54, 4, 21, 4, 42, 180, 0, 78]
abbrev dktX53_leastBehind_0 : List UInt8 := dkwX53_leastBehind_0 ++ dktX53_leastBehind_1
theorem dksX53_leastBehind_0 : cX53_leastBehind.data.toList.drop 0 = dktX53_leastBehind_0 := by decide +kernel
theorem dksX53_leastBehind_1 : cX53_leastBehind.data.toList.drop 22 = dktX53_leastBehind_1 := dk_seg dksX53_leastBehind_0 22 rfl rfl
theorem dksX53_leastBehind_2 : cX53_leastBehind.data.toList.drop 45 = dktX53_leastBehind_2 := dk_seg dksX53_leastBehind_1 23 rfl rfl
theorem dksX53_leastBehind_3 : cX53_leastBehind.data.toList.drop 67 = dktX53_leastBehind_3 := dk_seg dksX53_leastBehind_2 22 rfl rfl
theorem dksX53_leastBehind_4 : cX53_leastBehind.data.toList.drop 91 = dktX53_leastBehind_4 := dk_seg dksX53_leastBehind_3 24 rfl rfl
theorem dX53_leastBehind_0 : decode cX53_leastBehind 0 = .ok (.ldc 159, 2) := dk_18 159 (dk_at dksX53_leastBehind_0 0 rfl rfl)
theorem dX53_leastBehind_2 : decode cX53_leastBehind 2 = .ok (.istore_n 2, 1) := dk_61 (dk_at dksX53_leastBehind_0 2 rfl rfl)
theorem dX53_leastBehind_3 : decode cX53_leastBehind 3 = .ok (.iconst 0, 1) := dk_3 (dk_at dksX53_leastBehind_0 3 rfl rfl)
theorem dX53_leastBehind_4 : decode cX53_leastBehind 4 = .ok (.istore_n 3, 1) := dk_62 (dk_at dksX53_leastBehind_0 4 rfl rfl)
theorem dX53_leastBehind_5 : decode cX53_leastBehind 5 = .ok (.iload_n 3, 1) := dk_29 (dk_at dksX53_leastBehind_0 5 rfl rfl)
theorem dX53_leastBehind_6 : decode cX53_leastBehind 6 = .ok (.aload_n 0, 1) := dk_42 (dk_at dksX53_leastBehind_0 6 rfl rfl)
theorem dX53_leastBehind_7 : decode cX53_leastBehind 7 = .ok (.getfield 81, 3) := dk_180 0 81 (dk_at dksX53_leastBehind_0 7 rfl rfl)
theorem dX53_leastBehind_10 : decode cX53_leastBehind 10 = .ok (.if_icmp .ge 95, 3) := dk_162 0 95 (dk_at dksX53_leastBehind_0 10 rfl rfl)
theorem dX53_leastBehind_13 : decode cX53_leastBehind 13 = .ok (.iconst 0, 1) := dk_3 (dk_at dksX53_leastBehind_0 13 rfl rfl)
theorem dX53_leastBehind_14 : decode cX53_leastBehind 14 = .ok (.istore 4, 2) := dk_54 4 (dk_at dksX53_leastBehind_0 14 rfl rfl)
theorem dX53_leastBehind_16 : decode cX53_leastBehind 16 = .ok (.iload 4, 2) := dk_21 4 (dk_at dksX53_leastBehind_0 16 rfl rfl)
theorem dX53_leastBehind_18 : decode cX53_leastBehind 18 = .ok (.aload_n 0, 1) := dk_42 (dk_at dksX53_leastBehind_0 18 rfl rfl)
theorem dX53_leastBehind_19 : decode cX53_leastBehind 19 = .ok (.getfield 78, 3) := dk_180 0 78 (dk_at dksX53_leastBehind_0 19 rfl rfl)
theorem dX53_leastBehind_22 : decode cX53_leastBehind 22 = .ok (.if_icmp .gt 77, 3) := dk_163 0 77 (dk_at dksX53_leastBehind_1 0 rfl rfl)
theorem dX53_leastBehind_25 : decode cX53_leastBehind 25 = .ok (.aload_n 0, 1) := dk_42 (dk_at dksX53_leastBehind_1 3 rfl rfl)
theorem dX53_leastBehind_26 : decode cX53_leastBehind 26 = .ok (.getfield 29, 3) := dk_180 0 29 (dk_at dksX53_leastBehind_1 4 rfl rfl)
theorem dX53_leastBehind_29 : decode cX53_leastBehind 29 = .ok (.iload_n 3, 1) := dk_29 (dk_at dksX53_leastBehind_1 7 rfl rfl)
theorem dX53_leastBehind_30 : decode cX53_leastBehind 30 = .ok (.baload, 1) := dk_51 (dk_at dksX53_leastBehind_1 8 rfl rfl)
theorem dX53_leastBehind_31 : decode cX53_leastBehind 31 = .ok (.ifCond .ne 68, 3) := dk_154 0 68 (dk_at dksX53_leastBehind_1 9 rfl rfl)
theorem dX53_leastBehind_34 : decode cX53_leastBehind 34 = .ok (.iload_n 1, 1) := dk_27 (dk_at dksX53_leastBehind_1 12 rfl rfl)
theorem dX53_leastBehind_35 : decode cX53_leastBehind 35 = .ok (.iload 4, 2) := dk_21 4 (dk_at dksX53_leastBehind_1 13 rfl rfl)
theorem dX53_leastBehind_37 : decode cX53_leastBehind 37 = .ok (.aload_n 0, 1) := dk_42 (dk_at dksX53_leastBehind_1 15 rfl rfl)
theorem dX53_leastBehind_38 : decode cX53_leastBehind 38 = .ok (.iload_n 1, 1) := dk_27 (dk_at dksX53_leastBehind_1 16 rfl rfl)
theorem dX53_leastBehind_39 : decode cX53_leastBehind 39 = .ok (.iload_n 3, 1) := dk_29 (dk_at dksX53_leastBehind_1 17 rfl rfl)
theorem dX53_leastBehind_40 : decode cX53_leastBehind 40 = .ok (.invokevirtual 150, 3) := dk_182 0 150 (dk_at dksX53_leastBehind_1 18 rfl rfl)
theorem dX53_leastBehind_43 : decode cX53_leastBehind 43 = .ok (.isub, 1) := dk_100 (dk_at dksX53_leastBehind_1 21 rfl rfl)
theorem dX53_leastBehind_44 : decode cX53_leastBehind 44 = .ok (.aload_n 0, 1) := dk_42 (dk_at dksX53_leastBehind_1 22 rfl rfl)
theorem dX53_leastBehind_45 : decode cX53_leastBehind 45 = .ok (.getfield 73, 3) := dk_180 0 73 (dk_at dksX53_leastBehind_2 0 rfl rfl)
theorem dX53_leastBehind_48 : decode cX53_leastBehind 48 = .ok (.iload_n 3, 1) := dk_29 (dk_at dksX53_leastBehind_2 3 rfl rfl)
theorem dX53_leastBehind_49 : decode cX53_leastBehind 49 = .ok (.iaload, 1) := dk_46 (dk_at dksX53_leastBehind_2 4 rfl rfl)
theorem dX53_leastBehind_50 : decode cX53_leastBehind 50 = .ok (.imul, 1) := dk_104 (dk_at dksX53_leastBehind_2 5 rfl rfl)
theorem dX53_leastBehind_51 : decode cX53_leastBehind 51 = .ok (.iadd, 1) := dk_96 (dk_at dksX53_leastBehind_2 6 rfl rfl)
theorem dX53_leastBehind_52 : decode cX53_leastBehind 52 = .ok (.istore 5, 2) := dk_54 5 (dk_at dksX53_leastBehind_2 7 rfl rfl)
theorem dX53_leastBehind_54 : decode cX53_leastBehind 54 = .ok (.iload 5, 2) := dk_21 5 (dk_at dksX53_leastBehind_2 9 rfl rfl)
theorem dX53_leastBehind_56 : decode cX53_leastBehind 56 = .ok (.iload_n 1, 1) := dk_27 (dk_at dksX53_leastBehind_2 11 rfl rfl)
theorem dX53_leastBehind_57 : decode cX53_leastBehind 57 = .ok (.if_icmp .eq 34, 3) := dk_159 0 34 (dk_at dksX53_leastBehind_2 12 rfl rfl)
theorem dX53_leastBehind_60 : decode cX53_leastBehind 60 = .ok (.aload_n 0, 1) := dk_42 (dk_at dksX53_leastBehind_2 15 rfl rfl)
theorem dX53_leastBehind_61 : decode cX53_leastBehind 61 = .ok (.getfield 54, 3) := dk_180 0 54 (dk_at dksX53_leastBehind_2 16 rfl rfl)
theorem dX53_leastBehind_64 : decode cX53_leastBehind 64 = .ok (.iload 5, 2) := dk_21 5 (dk_at dksX53_leastBehind_2 19 rfl rfl)
theorem dX53_leastBehind_66 : decode cX53_leastBehind 66 = .ok (.baload, 1) := dk_51 (dk_at dksX53_leastBehind_2 21 rfl rfl)
theorem dX53_leastBehind_67 : decode cX53_leastBehind 67 = .ok (.ifCond .eq 24, 3) := dk_153 0 24 (dk_at dksX53_leastBehind_3 0 rfl rfl)
theorem dX53_leastBehind_70 : decode cX53_leastBehind 70 = .ok (.aload_n 0, 1) := dk_42 (dk_at dksX53_leastBehind_3 3 rfl rfl)
theorem dX53_leastBehind_71 : decode cX53_leastBehind 71 = .ok (.getfield 57, 3) := dk_180 0 57 (dk_at dksX53_leastBehind_3 4 rfl rfl)
theorem dX53_leastBehind_74 : decode cX53_leastBehind 74 = .ok (.iload 5, 2) := dk_21 5 (dk_at dksX53_leastBehind_3 7 rfl rfl)
theorem dX53_leastBehind_76 : decode cX53_leastBehind 76 = .ok (.iaload, 1) := dk_46 (dk_at dksX53_leastBehind_3 9 rfl rfl)
theorem dX53_leastBehind_77 : decode cX53_leastBehind 77 = .ok (.iload_n 2, 1) := dk_28 (dk_at dksX53_leastBehind_3 10 rfl rfl)
theorem dX53_leastBehind_78 : decode cX53_leastBehind 78 = .ok (.if_icmp .ge 13, 3) := dk_162 0 13 (dk_at dksX53_leastBehind_3 11 rfl rfl)
theorem dX53_leastBehind_81 : decode cX53_leastBehind 81 = .ok (.aload_n 0, 1) := dk_42 (dk_at dksX53_leastBehind_3 14 rfl rfl)
theorem dX53_leastBehind_82 : decode cX53_leastBehind 82 = .ok (.getfield 57, 3) := dk_180 0 57 (dk_at dksX53_leastBehind_3 15 rfl rfl)
theorem dX53_leastBehind_85 : decode cX53_leastBehind 85 = .ok (.iload 5, 2) := dk_21 5 (dk_at dksX53_leastBehind_3 18 rfl rfl)
theorem dX53_leastBehind_87 : decode cX53_leastBehind 87 = .ok (.iaload, 1) := dk_46 (dk_at dksX53_leastBehind_3 20 rfl rfl)
theorem dX53_leastBehind_88 : decode cX53_leastBehind 88 = .ok (.goto 4, 3) := dk_167 0 4 (dk_at dksX53_leastBehind_3 21 rfl rfl)
theorem dX53_leastBehind_91 : decode cX53_leastBehind 91 = .ok (.iload_n 2, 1) := dk_28 (dk_at dksX53_leastBehind_4 0 rfl rfl)
theorem dX53_leastBehind_92 : decode cX53_leastBehind 92 = .ok (.istore_n 2, 1) := dk_61 (dk_at dksX53_leastBehind_4 1 rfl rfl)
theorem dX53_leastBehind_93 : decode cX53_leastBehind 93 = .ok (.iinc 4 1, 3) := dk_132 4 1 (dk_at dksX53_leastBehind_4 2 rfl rfl)
theorem dX53_leastBehind_96 : decode cX53_leastBehind 96 = .ok (.goto (-80), 3) := dk_167 255 176 (dk_at dksX53_leastBehind_4 5 rfl rfl)
theorem dX53_leastBehind_99 : decode cX53_leastBehind 99 = .ok (.iinc 3 1, 3) := dk_132 3 1 (dk_at dksX53_leastBehind_4 8 rfl rfl)
theorem dX53_leastBehind_102 : decode cX53_leastBehind 102 = .ok (.goto (-97), 3) := dk_167 255 159 (dk_at dksX53_leastBehind_4 11 rfl rfl)
theorem dX53_leastBehind_105 : decode cX53_leastBehind 105 = .ok (.iload_n 2, 1) := dk_28 (dk_at dksX53_leastBehind_4 14 rfl rfl)
theorem dX53_leastBehind_106 : decode cX53_leastBehind 106 = .ok (.ireturn, 1) := dk_172 (dk_at dksX53_leastBehind_4 15 rfl rfl)
abbrev cX53_stepFrom : ByteArray := prog_58_method_29_code
def yX53_stepFrom : MethodName := ⟨RX53, "stepFrom", "(I)I"⟩
def dkwX53_stepFrom_5 : List UInt8 := [167, 255, 148, 132, 2, 1, 167, 255, 132, 27, 172]
abbrev dktX53_stepFrom_5 : List UInt8 := dkwX53_stepFrom_5 ++ []
def dkwX53_stepFrom_4 : List UInt8 := [42, 180, 0, 69, 29, 4, 100, 79, 42, 89, 180, 0, 69, 4, 96, 181, 0, 69, 21, 4, 172, 132, 3, 1]
abbrev dktX53_stepFrom_4 : List UInt8 := dkwX53_stepFrom_4 ++ dktX53_stepFrom_5
def dkwX53_stepFrom_3 : List UInt8 := [96, 42, 180, 0, 57, 27, 46, 160, 0, 38, 42, 180, 0, 63, 42, 180, 0, 69, 28, 79, 42, 180, 0, 66]
abbrev dktX53_stepFrom_3 : List UInt8 := dkwX53_stepFrom_3 ++ dktX53_stepFrom_4
def dkwX53_stepFrom_2 : List UInt8 := [21, 4, 27, 159, 0, 66, 42, 180, 0, 54, 21, 4, 51, 153, 0, 56, 42, 180, 0, 57, 21, 4, 46, 4]
abbrev dktX53_stepFrom_2 : List UInt8 := dkwX53_stepFrom_2 ++ dktX53_stepFrom_3
def dkwX53_stepFrom_1 : List UInt8 := [28, 51, 154, 0, 97, 27, 29, 42, 27, 28, 182, 0, 150, 100, 42, 180, 0, 73, 28, 46, 104, 96, 54, 4]
abbrev dktX53_stepFrom_1 : List UInt8 := dkwX53_stepFrom_1 ++ dktX53_stepFrom_2
def dkwX53_stepFrom_0 : List UInt8 := [3, 61, 28, 42, 180, 0, 81, 162, 0, 122, 3, 62, 29, 42, 180, 0, 78, 163, 0, 106, 42, 180, 0, 29]
abbrev dktX53_stepFrom_0 : List UInt8 := dkwX53_stepFrom_0 ++ dktX53_stepFrom_1
theorem dksX53_stepFrom_0 : cX53_stepFrom.data.toList.drop 0 = dktX53_stepFrom_0 := by decide +kernel
theorem dksX53_stepFrom_1 : cX53_stepFrom.data.toList.drop 24 = dktX53_stepFrom_1 := dk_seg dksX53_stepFrom_0 24 rfl rfl
theorem dksX53_stepFrom_2 : cX53_stepFrom.data.toList.drop 48 = dktX53_stepFrom_2 := dk_seg dksX53_stepFrom_1 24 rfl rfl
theorem dksX53_stepFrom_3 : cX53_stepFrom.data.toList.drop 72 = dktX53_stepFrom_3 := dk_seg dksX53_stepFrom_2 24 rfl rfl
theorem dksX53_stepFrom_4 : cX53_stepFrom.data.toList.drop 96 = dktX53_stepFrom_4 := dk_seg dksX53_stepFrom_3 24 rfl rfl
theorem dksX53_stepFrom_5 : cX53_stepFrom.data.toList.drop 120 = dktX53_stepFrom_5 := dk_seg dksX53_stepFrom_4 24 rfl rfl
theorem dX53_stepFrom_0 : decode cX53_stepFrom 0 = .ok (.iconst 0, 1) := dk_3 (dk_at dksX53_stepFrom_0 0 rfl rfl)
theorem dX53_stepFrom_1 : decode cX53_stepFrom 1 = .ok (.istore_n 2, 1) := dk_61 (dk_at dksX53_stepFrom_0 1 rfl rfl)
theorem dX53_stepFrom_2 : decode cX53_stepFrom 2 = .ok (.iload_n 2, 1) := dk_28 (dk_at dksX53_stepFrom_0 2 rfl rfl)
theorem dX53_stepFrom_3 : decode cX53_stepFrom 3 = .ok (.aload_n 0, 1) := dk_42 (dk_at dksX53_stepFrom_0 3 rfl rfl)
theorem dX53_stepFrom_4 : decode cX53_stepFrom 4 = .ok (.getfield 81, 3) := dk_180 0 81 (dk_at dksX53_stepFrom_0 4 rfl rfl)
theorem dX53_stepFrom_7 : decode cX53_stepFrom 7 = .ok (.if_icmp .ge 122, 3) := dk_162 0 122 (dk_at dksX53_stepFrom_0 7 rfl rfl)
theorem dX53_stepFrom_10 : decode cX53_stepFrom 10 = .ok (.iconst 0, 1) := dk_3 (dk_at dksX53_stepFrom_0 10 rfl rfl)
theorem dX53_stepFrom_11 : decode cX53_stepFrom 11 = .ok (.istore_n 3, 1) := dk_62 (dk_at dksX53_stepFrom_0 11 rfl rfl)
theorem dX53_stepFrom_12 : decode cX53_stepFrom 12 = .ok (.iload_n 3, 1) := dk_29 (dk_at dksX53_stepFrom_0 12 rfl rfl)
theorem dX53_stepFrom_13 : decode cX53_stepFrom 13 = .ok (.aload_n 0, 1) := dk_42 (dk_at dksX53_stepFrom_0 13 rfl rfl)
theorem dX53_stepFrom_14 : decode cX53_stepFrom 14 = .ok (.getfield 78, 3) := dk_180 0 78 (dk_at dksX53_stepFrom_0 14 rfl rfl)
theorem dX53_stepFrom_17 : decode cX53_stepFrom 17 = .ok (.if_icmp .gt 106, 3) := dk_163 0 106 (dk_at dksX53_stepFrom_0 17 rfl rfl)
theorem dX53_stepFrom_20 : decode cX53_stepFrom 20 = .ok (.aload_n 0, 1) := dk_42 (dk_at dksX53_stepFrom_0 20 rfl rfl)
theorem dX53_stepFrom_21 : decode cX53_stepFrom 21 = .ok (.getfield 29, 3) := dk_180 0 29 (dk_at dksX53_stepFrom_0 21 rfl rfl)
theorem dX53_stepFrom_24 : decode cX53_stepFrom 24 = .ok (.iload_n 2, 1) := dk_28 (dk_at dksX53_stepFrom_1 0 rfl rfl)
theorem dX53_stepFrom_25 : decode cX53_stepFrom 25 = .ok (.baload, 1) := dk_51 (dk_at dksX53_stepFrom_1 1 rfl rfl)
theorem dX53_stepFrom_26 : decode cX53_stepFrom 26 = .ok (.ifCond .ne 97, 3) := dk_154 0 97 (dk_at dksX53_stepFrom_1 2 rfl rfl)
theorem dX53_stepFrom_29 : decode cX53_stepFrom 29 = .ok (.iload_n 1, 1) := dk_27 (dk_at dksX53_stepFrom_1 5 rfl rfl)
theorem dX53_stepFrom_30 : decode cX53_stepFrom 30 = .ok (.iload_n 3, 1) := dk_29 (dk_at dksX53_stepFrom_1 6 rfl rfl)
theorem dX53_stepFrom_31 : decode cX53_stepFrom 31 = .ok (.aload_n 0, 1) := dk_42 (dk_at dksX53_stepFrom_1 7 rfl rfl)
theorem dX53_stepFrom_32 : decode cX53_stepFrom 32 = .ok (.iload_n 1, 1) := dk_27 (dk_at dksX53_stepFrom_1 8 rfl rfl)
theorem dX53_stepFrom_33 : decode cX53_stepFrom 33 = .ok (.iload_n 2, 1) := dk_28 (dk_at dksX53_stepFrom_1 9 rfl rfl)
theorem dX53_stepFrom_34 : decode cX53_stepFrom 34 = .ok (.invokevirtual 150, 3) := dk_182 0 150 (dk_at dksX53_stepFrom_1 10 rfl rfl)
theorem dX53_stepFrom_37 : decode cX53_stepFrom 37 = .ok (.isub, 1) := dk_100 (dk_at dksX53_stepFrom_1 13 rfl rfl)
theorem dX53_stepFrom_38 : decode cX53_stepFrom 38 = .ok (.aload_n 0, 1) := dk_42 (dk_at dksX53_stepFrom_1 14 rfl rfl)
theorem dX53_stepFrom_39 : decode cX53_stepFrom 39 = .ok (.getfield 73, 3) := dk_180 0 73 (dk_at dksX53_stepFrom_1 15 rfl rfl)
theorem dX53_stepFrom_42 : decode cX53_stepFrom 42 = .ok (.iload_n 2, 1) := dk_28 (dk_at dksX53_stepFrom_1 18 rfl rfl)
theorem dX53_stepFrom_43 : decode cX53_stepFrom 43 = .ok (.iaload, 1) := dk_46 (dk_at dksX53_stepFrom_1 19 rfl rfl)
theorem dX53_stepFrom_44 : decode cX53_stepFrom 44 = .ok (.imul, 1) := dk_104 (dk_at dksX53_stepFrom_1 20 rfl rfl)
theorem dX53_stepFrom_45 : decode cX53_stepFrom 45 = .ok (.iadd, 1) := dk_96 (dk_at dksX53_stepFrom_1 21 rfl rfl)
theorem dX53_stepFrom_46 : decode cX53_stepFrom 46 = .ok (.istore 4, 2) := dk_54 4 (dk_at dksX53_stepFrom_1 22 rfl rfl)
theorem dX53_stepFrom_48 : decode cX53_stepFrom 48 = .ok (.iload 4, 2) := dk_21 4 (dk_at dksX53_stepFrom_2 0 rfl rfl)
theorem dX53_stepFrom_50 : decode cX53_stepFrom 50 = .ok (.iload_n 1, 1) := dk_27 (dk_at dksX53_stepFrom_2 2 rfl rfl)
theorem dX53_stepFrom_51 : decode cX53_stepFrom 51 = .ok (.if_icmp .eq 66, 3) := dk_159 0 66 (dk_at dksX53_stepFrom_2 3 rfl rfl)
theorem dX53_stepFrom_54 : decode cX53_stepFrom 54 = .ok (.aload_n 0, 1) := dk_42 (dk_at dksX53_stepFrom_2 6 rfl rfl)
theorem dX53_stepFrom_55 : decode cX53_stepFrom 55 = .ok (.getfield 54, 3) := dk_180 0 54 (dk_at dksX53_stepFrom_2 7 rfl rfl)
theorem dX53_stepFrom_58 : decode cX53_stepFrom 58 = .ok (.iload 4, 2) := dk_21 4 (dk_at dksX53_stepFrom_2 10 rfl rfl)
theorem dX53_stepFrom_60 : decode cX53_stepFrom 60 = .ok (.baload, 1) := dk_51 (dk_at dksX53_stepFrom_2 12 rfl rfl)
theorem dX53_stepFrom_61 : decode cX53_stepFrom 61 = .ok (.ifCond .eq 56, 3) := dk_153 0 56 (dk_at dksX53_stepFrom_2 13 rfl rfl)
theorem dX53_stepFrom_64 : decode cX53_stepFrom 64 = .ok (.aload_n 0, 1) := dk_42 (dk_at dksX53_stepFrom_2 16 rfl rfl)
theorem dX53_stepFrom_65 : decode cX53_stepFrom 65 = .ok (.getfield 57, 3) := dk_180 0 57 (dk_at dksX53_stepFrom_2 17 rfl rfl)
theorem dX53_stepFrom_68 : decode cX53_stepFrom 68 = .ok (.iload 4, 2) := dk_21 4 (dk_at dksX53_stepFrom_2 20 rfl rfl)
theorem dX53_stepFrom_70 : decode cX53_stepFrom 70 = .ok (.iaload, 1) := dk_46 (dk_at dksX53_stepFrom_2 22 rfl rfl)
theorem dX53_stepFrom_71 : decode cX53_stepFrom 71 = .ok (.iconst 1, 1) := dk_4 (dk_at dksX53_stepFrom_2 23 rfl rfl)
theorem dX53_stepFrom_72 : decode cX53_stepFrom 72 = .ok (.iadd, 1) := dk_96 (dk_at dksX53_stepFrom_3 0 rfl rfl)
theorem dX53_stepFrom_73 : decode cX53_stepFrom 73 = .ok (.aload_n 0, 1) := dk_42 (dk_at dksX53_stepFrom_3 1 rfl rfl)
theorem dX53_stepFrom_74 : decode cX53_stepFrom 74 = .ok (.getfield 57, 3) := dk_180 0 57 (dk_at dksX53_stepFrom_3 2 rfl rfl)
theorem dX53_stepFrom_77 : decode cX53_stepFrom 77 = .ok (.iload_n 1, 1) := dk_27 (dk_at dksX53_stepFrom_3 5 rfl rfl)
theorem dX53_stepFrom_78 : decode cX53_stepFrom 78 = .ok (.iaload, 1) := dk_46 (dk_at dksX53_stepFrom_3 6 rfl rfl)
theorem dX53_stepFrom_79 : decode cX53_stepFrom 79 = .ok (.if_icmp .ne 38, 3) := dk_160 0 38 (dk_at dksX53_stepFrom_3 7 rfl rfl)
theorem dX53_stepFrom_82 : decode cX53_stepFrom 82 = .ok (.aload_n 0, 1) := dk_42 (dk_at dksX53_stepFrom_3 10 rfl rfl)
theorem dX53_stepFrom_83 : decode cX53_stepFrom 83 = .ok (.getfield 63, 3) := dk_180 0 63 (dk_at dksX53_stepFrom_3 11 rfl rfl)
theorem dX53_stepFrom_86 : decode cX53_stepFrom 86 = .ok (.aload_n 0, 1) := dk_42 (dk_at dksX53_stepFrom_3 14 rfl rfl)
theorem dX53_stepFrom_87 : decode cX53_stepFrom 87 = .ok (.getfield 69, 3) := dk_180 0 69 (dk_at dksX53_stepFrom_3 15 rfl rfl)
theorem dX53_stepFrom_90 : decode cX53_stepFrom 90 = .ok (.iload_n 2, 1) := dk_28 (dk_at dksX53_stepFrom_3 18 rfl rfl)
theorem dX53_stepFrom_91 : decode cX53_stepFrom 91 = .ok (.iastore, 1) := dk_79 (dk_at dksX53_stepFrom_3 19 rfl rfl)
theorem dX53_stepFrom_92 : decode cX53_stepFrom 92 = .ok (.aload_n 0, 1) := dk_42 (dk_at dksX53_stepFrom_3 20 rfl rfl)
theorem dX53_stepFrom_93 : decode cX53_stepFrom 93 = .ok (.getfield 66, 3) := dk_180 0 66 (dk_at dksX53_stepFrom_3 21 rfl rfl)
theorem dX53_stepFrom_96 : decode cX53_stepFrom 96 = .ok (.aload_n 0, 1) := dk_42 (dk_at dksX53_stepFrom_4 0 rfl rfl)
theorem dX53_stepFrom_97 : decode cX53_stepFrom 97 = .ok (.getfield 69, 3) := dk_180 0 69 (dk_at dksX53_stepFrom_4 1 rfl rfl)
theorem dX53_stepFrom_100 : decode cX53_stepFrom 100 = .ok (.iload_n 3, 1) := dk_29 (dk_at dksX53_stepFrom_4 4 rfl rfl)
theorem dX53_stepFrom_101 : decode cX53_stepFrom 101 = .ok (.iconst 1, 1) := dk_4 (dk_at dksX53_stepFrom_4 5 rfl rfl)
theorem dX53_stepFrom_102 : decode cX53_stepFrom 102 = .ok (.isub, 1) := dk_100 (dk_at dksX53_stepFrom_4 6 rfl rfl)
theorem dX53_stepFrom_103 : decode cX53_stepFrom 103 = .ok (.iastore, 1) := dk_79 (dk_at dksX53_stepFrom_4 7 rfl rfl)
theorem dX53_stepFrom_104 : decode cX53_stepFrom 104 = .ok (.aload_n 0, 1) := dk_42 (dk_at dksX53_stepFrom_4 8 rfl rfl)
theorem dX53_stepFrom_105 : decode cX53_stepFrom 105 = .ok (.dup, 1) := dk_89 (dk_at dksX53_stepFrom_4 9 rfl rfl)
theorem dX53_stepFrom_106 : decode cX53_stepFrom 106 = .ok (.getfield 69, 3) := dk_180 0 69 (dk_at dksX53_stepFrom_4 10 rfl rfl)
theorem dX53_stepFrom_109 : decode cX53_stepFrom 109 = .ok (.iconst 1, 1) := dk_4 (dk_at dksX53_stepFrom_4 13 rfl rfl)
theorem dX53_stepFrom_110 : decode cX53_stepFrom 110 = .ok (.iadd, 1) := dk_96 (dk_at dksX53_stepFrom_4 14 rfl rfl)
theorem dX53_stepFrom_111 : decode cX53_stepFrom 111 = .ok (.putfield 69, 3) := dk_181 0 69 (dk_at dksX53_stepFrom_4 15 rfl rfl)
theorem dX53_stepFrom_114 : decode cX53_stepFrom 114 = .ok (.iload 4, 2) := dk_21 4 (dk_at dksX53_stepFrom_4 18 rfl rfl)
theorem dX53_stepFrom_116 : decode cX53_stepFrom 116 = .ok (.ireturn, 1) := dk_172 (dk_at dksX53_stepFrom_4 20 rfl rfl)
theorem dX53_stepFrom_117 : decode cX53_stepFrom 117 = .ok (.iinc 3 1, 3) := dk_132 3 1 (dk_at dksX53_stepFrom_4 21 rfl rfl)
theorem dX53_stepFrom_120 : decode cX53_stepFrom 120 = .ok (.goto (-108), 3) := dk_167 255 148 (dk_at dksX53_stepFrom_5 0 rfl rfl)
theorem dX53_stepFrom_123 : decode cX53_stepFrom 123 = .ok (.iinc 2 1, 3) := dk_132 2 1 (dk_at dksX53_stepFrom_5 3 rfl rfl)
theorem dX53_stepFrom_126 : decode cX53_stepFrom 126 = .ok (.goto (-124), 3) := dk_167 255 132 (dk_at dksX53_stepFrom_5 6 rfl rfl)
theorem dX53_stepFrom_129 : decode cX53_stepFrom 129 = .ok (.iload_n 1, 1) := dk_27 (dk_at dksX53_stepFrom_5 9 rfl rfl)
theorem dX53_stepFrom_130 : decode cX53_stepFrom 130 = .ok (.ireturn, 1) := dk_172 (dk_at dksX53_stepFrom_5 10 rfl rfl)
abbrev cX53_step : ByteArray := prog_58_method_30_code
def yX53_step : MethodName := ⟨RX53, "step", "(II)I"⟩
def dkwX53_step_1 : List UInt8 := [154, 0, 12, 42, 180, 0, 63, 27, 46, 167, 0, 14, 42, 180, 0, 66, 27, 46, 167, 0, 5, 16, 254, 172]
abbrev dktX53_step_1 : List UInt8 := dkwX53_step_1 ++ []
def dkwX53_step_0 : List UInt8 := [27, 155, 0, 42, 27, 42, 180, 0, 69, 162, 0, 34, 28, 155, 0, 30, 28, 5, 162, 0, 25, 28]
abbrev dktX53_step_0 : List UInt8 := dkwX53_step_0 ++ dktX53_step_1
theorem dksX53_step_0 : cX53_step.data.toList.drop 0 = dktX53_step_0 := by decide +kernel
theorem dksX53_step_1 : cX53_step.data.toList.drop 22 = dktX53_step_1 := dk_seg dksX53_step_0 22 rfl rfl
theorem dX53_step_0 : decode cX53_step 0 = .ok (.iload_n 1, 1) := dk_27 (dk_at dksX53_step_0 0 rfl rfl)
theorem dX53_step_1 : decode cX53_step 1 = .ok (.ifCond .lt 42, 3) := dk_155 0 42 (dk_at dksX53_step_0 1 rfl rfl)
theorem dX53_step_4 : decode cX53_step 4 = .ok (.iload_n 1, 1) := dk_27 (dk_at dksX53_step_0 4 rfl rfl)
theorem dX53_step_5 : decode cX53_step 5 = .ok (.aload_n 0, 1) := dk_42 (dk_at dksX53_step_0 5 rfl rfl)
theorem dX53_step_6 : decode cX53_step 6 = .ok (.getfield 69, 3) := dk_180 0 69 (dk_at dksX53_step_0 6 rfl rfl)
theorem dX53_step_9 : decode cX53_step 9 = .ok (.if_icmp .ge 34, 3) := dk_162 0 34 (dk_at dksX53_step_0 9 rfl rfl)
theorem dX53_step_12 : decode cX53_step 12 = .ok (.iload_n 2, 1) := dk_28 (dk_at dksX53_step_0 12 rfl rfl)
theorem dX53_step_13 : decode cX53_step 13 = .ok (.ifCond .lt 30, 3) := dk_155 0 30 (dk_at dksX53_step_0 13 rfl rfl)
theorem dX53_step_16 : decode cX53_step 16 = .ok (.iload_n 2, 1) := dk_28 (dk_at dksX53_step_0 16 rfl rfl)
theorem dX53_step_17 : decode cX53_step 17 = .ok (.iconst 2, 1) := dk_5 (dk_at dksX53_step_0 17 rfl rfl)
theorem dX53_step_18 : decode cX53_step 18 = .ok (.if_icmp .ge 25, 3) := dk_162 0 25 (dk_at dksX53_step_0 18 rfl rfl)
theorem dX53_step_21 : decode cX53_step 21 = .ok (.iload_n 2, 1) := dk_28 (dk_at dksX53_step_0 21 rfl rfl)
theorem dX53_step_22 : decode cX53_step 22 = .ok (.ifCond .ne 12, 3) := dk_154 0 12 (dk_at dksX53_step_1 0 rfl rfl)
theorem dX53_step_25 : decode cX53_step 25 = .ok (.aload_n 0, 1) := dk_42 (dk_at dksX53_step_1 3 rfl rfl)
theorem dX53_step_26 : decode cX53_step 26 = .ok (.getfield 63, 3) := dk_180 0 63 (dk_at dksX53_step_1 4 rfl rfl)
theorem dX53_step_29 : decode cX53_step 29 = .ok (.iload_n 1, 1) := dk_27 (dk_at dksX53_step_1 7 rfl rfl)
theorem dX53_step_30 : decode cX53_step 30 = .ok (.iaload, 1) := dk_46 (dk_at dksX53_step_1 8 rfl rfl)
theorem dX53_step_31 : decode cX53_step 31 = .ok (.goto 14, 3) := dk_167 0 14 (dk_at dksX53_step_1 9 rfl rfl)
theorem dX53_step_34 : decode cX53_step 34 = .ok (.aload_n 0, 1) := dk_42 (dk_at dksX53_step_1 12 rfl rfl)
theorem dX53_step_35 : decode cX53_step 35 = .ok (.getfield 66, 3) := dk_180 0 66 (dk_at dksX53_step_1 13 rfl rfl)
theorem dX53_step_38 : decode cX53_step 38 = .ok (.iload_n 1, 1) := dk_27 (dk_at dksX53_step_1 16 rfl rfl)
theorem dX53_step_39 : decode cX53_step 39 = .ok (.iaload, 1) := dk_46 (dk_at dksX53_step_1 17 rfl rfl)
theorem dX53_step_40 : decode cX53_step 40 = .ok (.goto 5, 3) := dk_167 0 5 (dk_at dksX53_step_1 18 rfl rfl)
theorem dX53_step_43 : decode cX53_step 43 = .ok (.bipush (-2), 2) := dk_16 254 (dk_at dksX53_step_1 21 rfl rfl)
theorem dX53_step_45 : decode cX53_step 45 = .ok (.ireturn, 1) := dk_172 (dk_at dksX53_step_1 23 rfl rfl)
abbrev cX53_basin : ByteArray := prog_58_method_17_code
def yX53_basin : MethodName := ⟨RX53, "basin", "(II)J"⟩
def dkwX53_basin_2 : List UInt8 := [173]
abbrev dktX53_basin_2 : List UInt8 := dkwX53_basin_2 ++ []
def dkwX53_basin_1 : List UInt8 := [182, 0, 120, 167, 0, 21, 28, 4, 160, 0, 13, 42, 180, 0, 16, 27, 46, 133, 167, 0, 6, 20, 0, 131]
abbrev dktX53_basin_1 : List UInt8 := dkwX53_basin_1 ++ dktX53_basin_2
def dkwX53_basin_0 : List UInt8 := [42, 27, 182, 0, 128, 154, 0, 9, 20, 0, 131, 167, 0, 37, 28, 154, 0, 15, 42, 42, 180, 0, 33, 27]
abbrev dktX53_basin_0 : List UInt8 := dkwX53_basin_0 ++ dktX53_basin_1
theorem dksX53_basin_0 : cX53_basin.data.toList.drop 0 = dktX53_basin_0 := by decide +kernel
theorem dksX53_basin_1 : cX53_basin.data.toList.drop 24 = dktX53_basin_1 := dk_seg dksX53_basin_0 24 rfl rfl
theorem dksX53_basin_2 : cX53_basin.data.toList.drop 48 = dktX53_basin_2 := dk_seg dksX53_basin_1 24 rfl rfl
theorem dX53_basin_0 : decode cX53_basin 0 = .ok (.aload_n 0, 1) := dk_42 (dk_at dksX53_basin_0 0 rfl rfl)
theorem dX53_basin_1 : decode cX53_basin 1 = .ok (.iload_n 1, 1) := dk_27 (dk_at dksX53_basin_0 1 rfl rfl)
theorem dX53_basin_2 : decode cX53_basin 2 = .ok (.invokevirtual 128, 3) := dk_182 0 128 (dk_at dksX53_basin_0 2 rfl rfl)
theorem dX53_basin_5 : decode cX53_basin 5 = .ok (.ifCond .ne 9, 3) := dk_154 0 9 (dk_at dksX53_basin_0 5 rfl rfl)
theorem dX53_basin_8 : decode cX53_basin 8 = .ok (.ldc2_w 131, 3) := dk_20 0 131 (dk_at dksX53_basin_0 8 rfl rfl)
theorem dX53_basin_11 : decode cX53_basin 11 = .ok (.goto 37, 3) := dk_167 0 37 (dk_at dksX53_basin_0 11 rfl rfl)
theorem dX53_basin_14 : decode cX53_basin 14 = .ok (.iload_n 2, 1) := dk_28 (dk_at dksX53_basin_0 14 rfl rfl)
theorem dX53_basin_15 : decode cX53_basin 15 = .ok (.ifCond .ne 15, 3) := dk_154 0 15 (dk_at dksX53_basin_0 15 rfl rfl)
theorem dX53_basin_18 : decode cX53_basin 18 = .ok (.aload_n 0, 1) := dk_42 (dk_at dksX53_basin_0 18 rfl rfl)
theorem dX53_basin_19 : decode cX53_basin 19 = .ok (.aload_n 0, 1) := dk_42 (dk_at dksX53_basin_0 19 rfl rfl)
theorem dX53_basin_20 : decode cX53_basin 20 = .ok (.getfield 33, 3) := dk_180 0 33 (dk_at dksX53_basin_0 20 rfl rfl)
theorem dX53_basin_23 : decode cX53_basin 23 = .ok (.iload_n 1, 1) := dk_27 (dk_at dksX53_basin_0 23 rfl rfl)
theorem dX53_basin_24 : decode cX53_basin 24 = .ok (.invokevirtual 120, 3) := dk_182 0 120 (dk_at dksX53_basin_1 0 rfl rfl)
theorem dX53_basin_27 : decode cX53_basin 27 = .ok (.goto 21, 3) := dk_167 0 21 (dk_at dksX53_basin_1 3 rfl rfl)
theorem dX53_basin_30 : decode cX53_basin 30 = .ok (.iload_n 2, 1) := dk_28 (dk_at dksX53_basin_1 6 rfl rfl)
theorem dX53_basin_31 : decode cX53_basin 31 = .ok (.iconst 1, 1) := dk_4 (dk_at dksX53_basin_1 7 rfl rfl)
theorem dX53_basin_32 : decode cX53_basin 32 = .ok (.if_icmp .ne 13, 3) := dk_160 0 13 (dk_at dksX53_basin_1 8 rfl rfl)
theorem dX53_basin_35 : decode cX53_basin 35 = .ok (.aload_n 0, 1) := dk_42 (dk_at dksX53_basin_1 11 rfl rfl)
theorem dX53_basin_36 : decode cX53_basin 36 = .ok (.getfield 16, 3) := dk_180 0 16 (dk_at dksX53_basin_1 12 rfl rfl)
theorem dX53_basin_39 : decode cX53_basin 39 = .ok (.iload_n 1, 1) := dk_27 (dk_at dksX53_basin_1 15 rfl rfl)
theorem dX53_basin_40 : decode cX53_basin 40 = .ok (.iaload, 1) := dk_46 (dk_at dksX53_basin_1 16 rfl rfl)
theorem dX53_basin_41 : decode cX53_basin 41 = .ok (.i2l, 1) := dk_133 (dk_at dksX53_basin_1 17 rfl rfl)
theorem dX53_basin_42 : decode cX53_basin 42 = .ok (.goto 6, 3) := dk_167 0 6 (dk_at dksX53_basin_1 18 rfl rfl)
theorem dX53_basin_45 : decode cX53_basin 45 = .ok (.ldc2_w 131, 3) := dk_20 0 131 (dk_at dksX53_basin_1 21 rfl rfl)
theorem dX53_basin_48 : decode cX53_basin 48 = .ok (.lreturn, 1) := dk_173 (dk_at dksX53_basin_2 0 rfl rfl)
abbrev cX53_trial : ByteArray := prog_58_method_32_code
def yX53_trial : MethodName := ⟨RX53, "trial", "(IID)I"⟩
def dkwX53_trial_4 : List UInt8 := [167, 0, 4, 3, 172]
abbrev dktX53_trial_4 : List UInt8 := dkwX53_trial_4 ++ []
def dkwX53_trial_3 : List UInt8 := [96, 42, 180, 0, 45, 16, 6, 27, 104, 28, 96, 46, 79, 41, 20, 0, 175, 152, 156, 0, 7, 4]
abbrev dktX53_trial_3 : List UInt8 := dkwX53_trial_3 ++ dktX53_trial_4
def dkwX53_trial_2 : List UInt8 := [96, 41, 20, 0, 175, 152, 156, 0, 7, 4, 167, 0, 4, 5, 79, 42, 180, 0, 45, 16, 6, 28, 104, 27]
abbrev dktX53_trial_2 : List UInt8 := dkwX53_trial_2 ++ dktX53_trial_3
def dkwX53_trial_1 : List UInt8 := [27, 28, 182, 0, 171, 153, 0, 8, 21, 5, 154, 0, 5, 2, 172, 42, 180, 0, 45, 16, 6, 27, 104, 28]
abbrev dktX53_trial_1 : List UInt8 := dkwX53_trial_1 ++ dktX53_trial_2
def dkwX53_trial_0 : List UInt8 := [41, 20, 0, 167, 151, 155, 0, 15, 41, 20, 0, 169, 152, 157, 0, 7, 4, 167, 0, 4, 3, 54, 5, 42]
abbrev dktX53_trial_0 : List UInt8 := dkwX53_trial_0 ++ dktX53_trial_1
theorem dksX53_trial_0 : cX53_trial.data.toList.drop 0 = dktX53_trial_0 := by decide +kernel
theorem dksX53_trial_1 : cX53_trial.data.toList.drop 24 = dktX53_trial_1 := dk_seg dksX53_trial_0 24 rfl rfl
theorem dksX53_trial_2 : cX53_trial.data.toList.drop 48 = dktX53_trial_2 := dk_seg dksX53_trial_1 24 rfl rfl
theorem dksX53_trial_3 : cX53_trial.data.toList.drop 72 = dktX53_trial_3 := dk_seg dksX53_trial_2 24 rfl rfl
theorem dksX53_trial_4 : cX53_trial.data.toList.drop 94 = dktX53_trial_4 := dk_seg dksX53_trial_3 22 rfl rfl
theorem dX53_trial_0 : decode cX53_trial 0 = .ok (.dload_n 3, 1) := dk_41 (dk_at dksX53_trial_0 0 rfl rfl)
theorem dX53_trial_1 : decode cX53_trial 1 = .ok (.ldc2_w 167, 3) := dk_20 0 167 (dk_at dksX53_trial_0 1 rfl rfl)
theorem dX53_trial_4 : decode cX53_trial 4 = .ok (.dcmp .l, 1) := dk_151 (dk_at dksX53_trial_0 4 rfl rfl)
theorem dX53_trial_5 : decode cX53_trial 5 = .ok (.ifCond .lt 15, 3) := dk_155 0 15 (dk_at dksX53_trial_0 5 rfl rfl)
theorem dX53_trial_8 : decode cX53_trial 8 = .ok (.dload_n 3, 1) := dk_41 (dk_at dksX53_trial_0 8 rfl rfl)
theorem dX53_trial_9 : decode cX53_trial 9 = .ok (.ldc2_w 169, 3) := dk_20 0 169 (dk_at dksX53_trial_0 9 rfl rfl)
theorem dX53_trial_12 : decode cX53_trial 12 = .ok (.dcmp .g, 1) := dk_152 (dk_at dksX53_trial_0 12 rfl rfl)
theorem dX53_trial_13 : decode cX53_trial 13 = .ok (.ifCond .gt 7, 3) := dk_157 0 7 (dk_at dksX53_trial_0 13 rfl rfl)
theorem dX53_trial_16 : decode cX53_trial 16 = .ok (.iconst 1, 1) := dk_4 (dk_at dksX53_trial_0 16 rfl rfl)
theorem dX53_trial_17 : decode cX53_trial 17 = .ok (.goto 4, 3) := dk_167 0 4 (dk_at dksX53_trial_0 17 rfl rfl)
theorem dX53_trial_20 : decode cX53_trial 20 = .ok (.iconst 0, 1) := dk_3 (dk_at dksX53_trial_0 20 rfl rfl)
theorem dX53_trial_21 : decode cX53_trial 21 = .ok (.istore 5, 2) := dk_54 5 (dk_at dksX53_trial_0 21 rfl rfl)
theorem dX53_trial_23 : decode cX53_trial 23 = .ok (.aload_n 0, 1) := dk_42 (dk_at dksX53_trial_0 23 rfl rfl)
theorem dX53_trial_24 : decode cX53_trial 24 = .ok (.iload_n 1, 1) := dk_27 (dk_at dksX53_trial_1 0 rfl rfl)
theorem dX53_trial_25 : decode cX53_trial 25 = .ok (.iload_n 2, 1) := dk_28 (dk_at dksX53_trial_1 1 rfl rfl)
theorem dX53_trial_26 : decode cX53_trial 26 = .ok (.invokevirtual 171, 3) := dk_182 0 171 (dk_at dksX53_trial_1 2 rfl rfl)
theorem dX53_trial_29 : decode cX53_trial 29 = .ok (.ifCond .eq 8, 3) := dk_153 0 8 (dk_at dksX53_trial_1 5 rfl rfl)
theorem dX53_trial_32 : decode cX53_trial 32 = .ok (.iload 5, 2) := dk_21 5 (dk_at dksX53_trial_1 8 rfl rfl)
theorem dX53_trial_34 : decode cX53_trial 34 = .ok (.ifCond .ne 5, 3) := dk_154 0 5 (dk_at dksX53_trial_1 10 rfl rfl)
theorem dX53_trial_37 : decode cX53_trial 37 = .ok (.iconst (-1), 1) := dk_2 (dk_at dksX53_trial_1 13 rfl rfl)
theorem dX53_trial_38 : decode cX53_trial 38 = .ok (.ireturn, 1) := dk_172 (dk_at dksX53_trial_1 14 rfl rfl)
theorem dX53_trial_39 : decode cX53_trial 39 = .ok (.aload_n 0, 1) := dk_42 (dk_at dksX53_trial_1 15 rfl rfl)
theorem dX53_trial_40 : decode cX53_trial 40 = .ok (.getfield 45, 3) := dk_180 0 45 (dk_at dksX53_trial_1 16 rfl rfl)
theorem dX53_trial_43 : decode cX53_trial 43 = .ok (.bipush 6, 2) := dk_16 6 (dk_at dksX53_trial_1 19 rfl rfl)
theorem dX53_trial_45 : decode cX53_trial 45 = .ok (.iload_n 1, 1) := dk_27 (dk_at dksX53_trial_1 21 rfl rfl)
theorem dX53_trial_46 : decode cX53_trial 46 = .ok (.imul, 1) := dk_104 (dk_at dksX53_trial_1 22 rfl rfl)
theorem dX53_trial_47 : decode cX53_trial 47 = .ok (.iload_n 2, 1) := dk_28 (dk_at dksX53_trial_1 23 rfl rfl)
theorem dX53_trial_48 : decode cX53_trial 48 = .ok (.iadd, 1) := dk_96 (dk_at dksX53_trial_2 0 rfl rfl)
theorem dX53_trial_49 : decode cX53_trial 49 = .ok (.dload_n 3, 1) := dk_41 (dk_at dksX53_trial_2 1 rfl rfl)
theorem dX53_trial_50 : decode cX53_trial 50 = .ok (.ldc2_w 175, 3) := dk_20 0 175 (dk_at dksX53_trial_2 2 rfl rfl)
theorem dX53_trial_53 : decode cX53_trial 53 = .ok (.dcmp .g, 1) := dk_152 (dk_at dksX53_trial_2 5 rfl rfl)
theorem dX53_trial_54 : decode cX53_trial 54 = .ok (.ifCond .ge 7, 3) := dk_156 0 7 (dk_at dksX53_trial_2 6 rfl rfl)
theorem dX53_trial_57 : decode cX53_trial 57 = .ok (.iconst 1, 1) := dk_4 (dk_at dksX53_trial_2 9 rfl rfl)
theorem dX53_trial_58 : decode cX53_trial 58 = .ok (.goto 4, 3) := dk_167 0 4 (dk_at dksX53_trial_2 10 rfl rfl)
theorem dX53_trial_61 : decode cX53_trial 61 = .ok (.iconst 2, 1) := dk_5 (dk_at dksX53_trial_2 13 rfl rfl)
theorem dX53_trial_62 : decode cX53_trial 62 = .ok (.iastore, 1) := dk_79 (dk_at dksX53_trial_2 14 rfl rfl)
theorem dX53_trial_63 : decode cX53_trial 63 = .ok (.aload_n 0, 1) := dk_42 (dk_at dksX53_trial_2 15 rfl rfl)
theorem dX53_trial_64 : decode cX53_trial 64 = .ok (.getfield 45, 3) := dk_180 0 45 (dk_at dksX53_trial_2 16 rfl rfl)
theorem dX53_trial_67 : decode cX53_trial 67 = .ok (.bipush 6, 2) := dk_16 6 (dk_at dksX53_trial_2 19 rfl rfl)
theorem dX53_trial_69 : decode cX53_trial 69 = .ok (.iload_n 2, 1) := dk_28 (dk_at dksX53_trial_2 21 rfl rfl)
theorem dX53_trial_70 : decode cX53_trial 70 = .ok (.imul, 1) := dk_104 (dk_at dksX53_trial_2 22 rfl rfl)
theorem dX53_trial_71 : decode cX53_trial 71 = .ok (.iload_n 1, 1) := dk_27 (dk_at dksX53_trial_2 23 rfl rfl)
theorem dX53_trial_72 : decode cX53_trial 72 = .ok (.iadd, 1) := dk_96 (dk_at dksX53_trial_3 0 rfl rfl)
theorem dX53_trial_73 : decode cX53_trial 73 = .ok (.aload_n 0, 1) := dk_42 (dk_at dksX53_trial_3 1 rfl rfl)
theorem dX53_trial_74 : decode cX53_trial 74 = .ok (.getfield 45, 3) := dk_180 0 45 (dk_at dksX53_trial_3 2 rfl rfl)
theorem dX53_trial_77 : decode cX53_trial 77 = .ok (.bipush 6, 2) := dk_16 6 (dk_at dksX53_trial_3 5 rfl rfl)
theorem dX53_trial_79 : decode cX53_trial 79 = .ok (.iload_n 1, 1) := dk_27 (dk_at dksX53_trial_3 7 rfl rfl)
theorem dX53_trial_80 : decode cX53_trial 80 = .ok (.imul, 1) := dk_104 (dk_at dksX53_trial_3 8 rfl rfl)
theorem dX53_trial_81 : decode cX53_trial 81 = .ok (.iload_n 2, 1) := dk_28 (dk_at dksX53_trial_3 9 rfl rfl)
theorem dX53_trial_82 : decode cX53_trial 82 = .ok (.iadd, 1) := dk_96 (dk_at dksX53_trial_3 10 rfl rfl)
theorem dX53_trial_83 : decode cX53_trial 83 = .ok (.iaload, 1) := dk_46 (dk_at dksX53_trial_3 11 rfl rfl)
theorem dX53_trial_84 : decode cX53_trial 84 = .ok (.iastore, 1) := dk_79 (dk_at dksX53_trial_3 12 rfl rfl)
theorem dX53_trial_85 : decode cX53_trial 85 = .ok (.dload_n 3, 1) := dk_41 (dk_at dksX53_trial_3 13 rfl rfl)
theorem dX53_trial_86 : decode cX53_trial 86 = .ok (.ldc2_w 175, 3) := dk_20 0 175 (dk_at dksX53_trial_3 14 rfl rfl)
theorem dX53_trial_89 : decode cX53_trial 89 = .ok (.dcmp .g, 1) := dk_152 (dk_at dksX53_trial_3 17 rfl rfl)
theorem dX53_trial_90 : decode cX53_trial 90 = .ok (.ifCond .ge 7, 3) := dk_156 0 7 (dk_at dksX53_trial_3 18 rfl rfl)
theorem dX53_trial_93 : decode cX53_trial 93 = .ok (.iconst 1, 1) := dk_4 (dk_at dksX53_trial_3 21 rfl rfl)
theorem dX53_trial_94 : decode cX53_trial 94 = .ok (.goto 4, 3) := dk_167 0 4 (dk_at dksX53_trial_4 0 rfl rfl)
theorem dX53_trial_97 : decode cX53_trial 97 = .ok (.iconst 0, 1) := dk_3 (dk_at dksX53_trial_4 3 rfl rfl)
theorem dX53_trial_98 : decode cX53_trial 98 = .ok (.ireturn, 1) := dk_172 (dk_at dksX53_trial_4 4 rfl rfl)
abbrev cX53_arePair : ByteArray := prog_58_method_31_code
def yX53_arePair : MethodName := ⟨RX53, "arePair", "(II)Z"⟩
def dkwX53_arePair_1 : List UInt8 := [180, 0, 29, 27, 51, 154, 0, 16, 42, 180, 0, 29, 28, 51, 154, 0, 7, 4, 167, 0, 4, 3, 172]
abbrev dktX53_arePair_1 : List UInt8 := dkwX53_arePair_1 ++ []
def dkwX53_arePair_0 : List UInt8 := [42, 27, 182, 0, 136, 153, 0, 38, 42, 28, 182, 0, 136, 153, 0, 30, 27, 28, 159, 0, 25, 42]
abbrev dktX53_arePair_0 : List UInt8 := dkwX53_arePair_0 ++ dktX53_arePair_1
theorem dksX53_arePair_0 : cX53_arePair.data.toList.drop 0 = dktX53_arePair_0 := by decide +kernel
theorem dksX53_arePair_1 : cX53_arePair.data.toList.drop 22 = dktX53_arePair_1 := dk_seg dksX53_arePair_0 22 rfl rfl
theorem dX53_arePair_0 : decode cX53_arePair 0 = .ok (.aload_n 0, 1) := dk_42 (dk_at dksX53_arePair_0 0 rfl rfl)
theorem dX53_arePair_1 : decode cX53_arePair 1 = .ok (.iload_n 1, 1) := dk_27 (dk_at dksX53_arePair_0 1 rfl rfl)
theorem dX53_arePair_2 : decode cX53_arePair 2 = .ok (.invokevirtual 136, 3) := dk_182 0 136 (dk_at dksX53_arePair_0 2 rfl rfl)
theorem dX53_arePair_5 : decode cX53_arePair 5 = .ok (.ifCond .eq 38, 3) := dk_153 0 38 (dk_at dksX53_arePair_0 5 rfl rfl)
theorem dX53_arePair_8 : decode cX53_arePair 8 = .ok (.aload_n 0, 1) := dk_42 (dk_at dksX53_arePair_0 8 rfl rfl)
theorem dX53_arePair_9 : decode cX53_arePair 9 = .ok (.iload_n 2, 1) := dk_28 (dk_at dksX53_arePair_0 9 rfl rfl)
theorem dX53_arePair_10 : decode cX53_arePair 10 = .ok (.invokevirtual 136, 3) := dk_182 0 136 (dk_at dksX53_arePair_0 10 rfl rfl)
theorem dX53_arePair_13 : decode cX53_arePair 13 = .ok (.ifCond .eq 30, 3) := dk_153 0 30 (dk_at dksX53_arePair_0 13 rfl rfl)
theorem dX53_arePair_16 : decode cX53_arePair 16 = .ok (.iload_n 1, 1) := dk_27 (dk_at dksX53_arePair_0 16 rfl rfl)
theorem dX53_arePair_17 : decode cX53_arePair 17 = .ok (.iload_n 2, 1) := dk_28 (dk_at dksX53_arePair_0 17 rfl rfl)
theorem dX53_arePair_18 : decode cX53_arePair 18 = .ok (.if_icmp .eq 25, 3) := dk_159 0 25 (dk_at dksX53_arePair_0 18 rfl rfl)
theorem dX53_arePair_21 : decode cX53_arePair 21 = .ok (.aload_n 0, 1) := dk_42 (dk_at dksX53_arePair_0 21 rfl rfl)
theorem dX53_arePair_22 : decode cX53_arePair 22 = .ok (.getfield 29, 3) := dk_180 0 29 (dk_at dksX53_arePair_1 0 rfl rfl)
theorem dX53_arePair_25 : decode cX53_arePair 25 = .ok (.iload_n 1, 1) := dk_27 (dk_at dksX53_arePair_1 3 rfl rfl)
theorem dX53_arePair_26 : decode cX53_arePair 26 = .ok (.baload, 1) := dk_51 (dk_at dksX53_arePair_1 4 rfl rfl)
theorem dX53_arePair_27 : decode cX53_arePair 27 = .ok (.ifCond .ne 16, 3) := dk_154 0 16 (dk_at dksX53_arePair_1 5 rfl rfl)
theorem dX53_arePair_30 : decode cX53_arePair 30 = .ok (.aload_n 0, 1) := dk_42 (dk_at dksX53_arePair_1 8 rfl rfl)
theorem dX53_arePair_31 : decode cX53_arePair 31 = .ok (.getfield 29, 3) := dk_180 0 29 (dk_at dksX53_arePair_1 9 rfl rfl)
theorem dX53_arePair_34 : decode cX53_arePair 34 = .ok (.iload_n 2, 1) := dk_28 (dk_at dksX53_arePair_1 12 rfl rfl)
theorem dX53_arePair_35 : decode cX53_arePair 35 = .ok (.baload, 1) := dk_51 (dk_at dksX53_arePair_1 13 rfl rfl)
theorem dX53_arePair_36 : decode cX53_arePair 36 = .ok (.ifCond .ne 7, 3) := dk_154 0 7 (dk_at dksX53_arePair_1 14 rfl rfl)
theorem dX53_arePair_39 : decode cX53_arePair 39 = .ok (.iconst 1, 1) := dk_4 (dk_at dksX53_arePair_1 17 rfl rfl)
theorem dX53_arePair_40 : decode cX53_arePair 40 = .ok (.goto 4, 3) := dk_167 0 4 (dk_at dksX53_arePair_1 18 rfl rfl)
theorem dX53_arePair_43 : decode cX53_arePair 43 = .ok (.iconst 0, 1) := dk_3 (dk_at dksX53_arePair_1 21 rfl rfl)
theorem dX53_arePair_44 : decode cX53_arePair 44 = .ok (.ireturn, 1) := dk_172 (dk_at dksX53_arePair_1 22 rfl rfl)
abbrev cX53_mix : ByteArray := prog_58_method_33_code
def yX53_mix : MethodName := ⟨RX53, "mix", "(II)I"⟩
def dkwX53_mix_9 : List UInt8 := [79, 42, 180, 0, 45, 16, 6, 21, 9, 104, 28, 96, 3, 79, 132, 9, 1, 167, 255, 194, 3, 172]
abbrev dktX53_mix_9 : List UInt8 := dkwX53_mix_9 ++ []
def dkwX53_mix_8 : List UInt8 := [180, 0, 45, 16, 6, 21, 9, 104, 27, 96, 3, 79, 42, 180, 0, 45, 16, 6, 28, 104, 21, 9, 96, 3]
abbrev dktX53_mix_8 : List UInt8 := dkwX53_mix_8 ++ dktX53_mix_9
def dkwX53_mix_7 : List UInt8 := [3, 54, 9, 21, 9, 16, 6, 162, 0, 61, 42, 180, 0, 45, 16, 6, 27, 104, 21, 9, 96, 3, 79, 42]
abbrev dktX53_mix_7 : List UInt8 := dkwX53_mix_7 ++ dktX53_mix_8
def dkwX53_mix_6 : List UInt8 := [27, 92, 47, 22, 6, 101, 80, 42, 180, 0, 33, 28, 21, 8, 79, 7, 172, 42, 180, 0, 29, 28, 4, 84]
abbrev dktX53_mix_6 : List UInt8 := dkwX53_mix_6 ++ dktX53_mix_7
def dkwX53_mix_5 : List UInt8 := [180, 0, 33, 182, 0, 124, 154, 0, 35, 42, 180, 0, 22, 27, 92, 47, 22, 4, 101, 80, 42, 180, 0, 26]
abbrev dktX53_mix_5 : List UInt8 := dkwX53_mix_5 ++ dktX53_mix_6
def dkwX53_mix_4 : List UInt8 := [22, 4, 97, 80, 42, 180, 0, 26, 27, 92, 47, 22, 6, 97, 80, 42, 180, 0, 33, 28, 2, 79, 42, 42]
abbrev dktX53_mix_4 : List UInt8 := dkwX53_mix_4 ++ dktX53_mix_5
def dkwX53_mix_3 : List UInt8 := [42, 180, 0, 26, 28, 47, 55, 6, 42, 180, 0, 33, 28, 46, 54, 8, 42, 180, 0, 22, 27, 92, 47]
abbrev dktX53_mix_3 : List UInt8 := dkwX53_mix_3 ++ dktX53_mix_4
def dkwX53_mix_2 : List UInt8 := [27, 46, 104, 42, 180, 0, 19, 28, 46, 96, 46, 158, 0, 5, 6, 172, 42, 180, 0, 22, 28, 47, 55, 4]
abbrev dktX53_mix_2 : List UInt8 := dkwX53_mix_2 ++ dktX53_mix_3
def dkwX53_mix_1 : List UInt8 := [4, 159, 0, 13, 29, 154, 0, 7, 4, 167, 0, 4, 5, 172, 42, 180, 0, 39, 16, 6, 42, 180, 0, 19]
abbrev dktX53_mix_1 : List UInt8 := dkwX53_mix_1 ++ dktX53_mix_2
def dkwX53_mix_0 : List UInt8 := [42, 27, 28, 182, 0, 171, 154, 0, 5, 2, 172, 42, 180, 0, 45, 16, 6, 27, 104, 28, 96, 46, 62, 29]
abbrev dktX53_mix_0 : List UInt8 := dkwX53_mix_0 ++ dktX53_mix_1
theorem dksX53_mix_0 : cX53_mix.data.toList.drop 0 = dktX53_mix_0 := by decide +kernel
theorem dksX53_mix_1 : cX53_mix.data.toList.drop 24 = dktX53_mix_1 := dk_seg dksX53_mix_0 24 rfl rfl
theorem dksX53_mix_2 : cX53_mix.data.toList.drop 48 = dktX53_mix_2 := dk_seg dksX53_mix_1 24 rfl rfl
theorem dksX53_mix_3 : cX53_mix.data.toList.drop 72 = dktX53_mix_3 := dk_seg dksX53_mix_2 24 rfl rfl
theorem dksX53_mix_4 : cX53_mix.data.toList.drop 95 = dktX53_mix_4 := dk_seg dksX53_mix_3 23 rfl rfl
theorem dksX53_mix_5 : cX53_mix.data.toList.drop 119 = dktX53_mix_5 := dk_seg dksX53_mix_4 24 rfl rfl
theorem dksX53_mix_6 : cX53_mix.data.toList.drop 143 = dktX53_mix_6 := dk_seg dksX53_mix_5 24 rfl rfl
theorem dksX53_mix_7 : cX53_mix.data.toList.drop 167 = dktX53_mix_7 := dk_seg dksX53_mix_6 24 rfl rfl
theorem dksX53_mix_8 : cX53_mix.data.toList.drop 191 = dktX53_mix_8 := dk_seg dksX53_mix_7 24 rfl rfl
theorem dksX53_mix_9 : cX53_mix.data.toList.drop 215 = dktX53_mix_9 := dk_seg dksX53_mix_8 24 rfl rfl
theorem dX53_mix_0 : decode cX53_mix 0 = .ok (.aload_n 0, 1) := dk_42 (dk_at dksX53_mix_0 0 rfl rfl)
theorem dX53_mix_1 : decode cX53_mix 1 = .ok (.iload_n 1, 1) := dk_27 (dk_at dksX53_mix_0 1 rfl rfl)
theorem dX53_mix_2 : decode cX53_mix 2 = .ok (.iload_n 2, 1) := dk_28 (dk_at dksX53_mix_0 2 rfl rfl)
theorem dX53_mix_3 : decode cX53_mix 3 = .ok (.invokevirtual 171, 3) := dk_182 0 171 (dk_at dksX53_mix_0 3 rfl rfl)
theorem dX53_mix_6 : decode cX53_mix 6 = .ok (.ifCond .ne 5, 3) := dk_154 0 5 (dk_at dksX53_mix_0 6 rfl rfl)
theorem dX53_mix_9 : decode cX53_mix 9 = .ok (.iconst (-1), 1) := dk_2 (dk_at dksX53_mix_0 9 rfl rfl)
theorem dX53_mix_10 : decode cX53_mix 10 = .ok (.ireturn, 1) := dk_172 (dk_at dksX53_mix_0 10 rfl rfl)
theorem dX53_mix_11 : decode cX53_mix 11 = .ok (.aload_n 0, 1) := dk_42 (dk_at dksX53_mix_0 11 rfl rfl)
theorem dX53_mix_12 : decode cX53_mix 12 = .ok (.getfield 45, 3) := dk_180 0 45 (dk_at dksX53_mix_0 12 rfl rfl)
theorem dX53_mix_15 : decode cX53_mix 15 = .ok (.bipush 6, 2) := dk_16 6 (dk_at dksX53_mix_0 15 rfl rfl)
theorem dX53_mix_17 : decode cX53_mix 17 = .ok (.iload_n 1, 1) := dk_27 (dk_at dksX53_mix_0 17 rfl rfl)
theorem dX53_mix_18 : decode cX53_mix 18 = .ok (.imul, 1) := dk_104 (dk_at dksX53_mix_0 18 rfl rfl)
theorem dX53_mix_19 : decode cX53_mix 19 = .ok (.iload_n 2, 1) := dk_28 (dk_at dksX53_mix_0 19 rfl rfl)
theorem dX53_mix_20 : decode cX53_mix 20 = .ok (.iadd, 1) := dk_96 (dk_at dksX53_mix_0 20 rfl rfl)
theorem dX53_mix_21 : decode cX53_mix 21 = .ok (.iaload, 1) := dk_46 (dk_at dksX53_mix_0 21 rfl rfl)
theorem dX53_mix_22 : decode cX53_mix 22 = .ok (.istore_n 3, 1) := dk_62 (dk_at dksX53_mix_0 22 rfl rfl)
theorem dX53_mix_23 : decode cX53_mix 23 = .ok (.iload_n 3, 1) := dk_29 (dk_at dksX53_mix_0 23 rfl rfl)
theorem dX53_mix_24 : decode cX53_mix 24 = .ok (.iconst 1, 1) := dk_4 (dk_at dksX53_mix_1 0 rfl rfl)
theorem dX53_mix_25 : decode cX53_mix 25 = .ok (.if_icmp .eq 13, 3) := dk_159 0 13 (dk_at dksX53_mix_1 1 rfl rfl)
theorem dX53_mix_28 : decode cX53_mix 28 = .ok (.iload_n 3, 1) := dk_29 (dk_at dksX53_mix_1 4 rfl rfl)
theorem dX53_mix_29 : decode cX53_mix 29 = .ok (.ifCond .ne 7, 3) := dk_154 0 7 (dk_at dksX53_mix_1 5 rfl rfl)
theorem dX53_mix_32 : decode cX53_mix 32 = .ok (.iconst 1, 1) := dk_4 (dk_at dksX53_mix_1 8 rfl rfl)
theorem dX53_mix_33 : decode cX53_mix 33 = .ok (.goto 4, 3) := dk_167 0 4 (dk_at dksX53_mix_1 9 rfl rfl)
theorem dX53_mix_36 : decode cX53_mix 36 = .ok (.iconst 2, 1) := dk_5 (dk_at dksX53_mix_1 12 rfl rfl)
theorem dX53_mix_37 : decode cX53_mix 37 = .ok (.ireturn, 1) := dk_172 (dk_at dksX53_mix_1 13 rfl rfl)
theorem dX53_mix_38 : decode cX53_mix 38 = .ok (.aload_n 0, 1) := dk_42 (dk_at dksX53_mix_1 14 rfl rfl)
theorem dX53_mix_39 : decode cX53_mix 39 = .ok (.getfield 39, 3) := dk_180 0 39 (dk_at dksX53_mix_1 15 rfl rfl)
theorem dX53_mix_42 : decode cX53_mix 42 = .ok (.bipush 6, 2) := dk_16 6 (dk_at dksX53_mix_1 18 rfl rfl)
theorem dX53_mix_44 : decode cX53_mix 44 = .ok (.aload_n 0, 1) := dk_42 (dk_at dksX53_mix_1 20 rfl rfl)
theorem dX53_mix_45 : decode cX53_mix 45 = .ok (.getfield 19, 3) := dk_180 0 19 (dk_at dksX53_mix_1 21 rfl rfl)
theorem dX53_mix_48 : decode cX53_mix 48 = .ok (.iload_n 1, 1) := dk_27 (dk_at dksX53_mix_2 0 rfl rfl)
theorem dX53_mix_49 : decode cX53_mix 49 = .ok (.iaload, 1) := dk_46 (dk_at dksX53_mix_2 1 rfl rfl)
theorem dX53_mix_50 : decode cX53_mix 50 = .ok (.imul, 1) := dk_104 (dk_at dksX53_mix_2 2 rfl rfl)
theorem dX53_mix_51 : decode cX53_mix 51 = .ok (.aload_n 0, 1) := dk_42 (dk_at dksX53_mix_2 3 rfl rfl)
theorem dX53_mix_52 : decode cX53_mix 52 = .ok (.getfield 19, 3) := dk_180 0 19 (dk_at dksX53_mix_2 4 rfl rfl)
theorem dX53_mix_55 : decode cX53_mix 55 = .ok (.iload_n 2, 1) := dk_28 (dk_at dksX53_mix_2 7 rfl rfl)
theorem dX53_mix_56 : decode cX53_mix 56 = .ok (.iaload, 1) := dk_46 (dk_at dksX53_mix_2 8 rfl rfl)
theorem dX53_mix_57 : decode cX53_mix 57 = .ok (.iadd, 1) := dk_96 (dk_at dksX53_mix_2 9 rfl rfl)
theorem dX53_mix_58 : decode cX53_mix 58 = .ok (.iaload, 1) := dk_46 (dk_at dksX53_mix_2 10 rfl rfl)
theorem dX53_mix_59 : decode cX53_mix 59 = .ok (.ifCond .le 5, 3) := dk_158 0 5 (dk_at dksX53_mix_2 11 rfl rfl)
theorem dX53_mix_62 : decode cX53_mix 62 = .ok (.iconst 3, 1) := dk_6 (dk_at dksX53_mix_2 14 rfl rfl)
theorem dX53_mix_63 : decode cX53_mix 63 = .ok (.ireturn, 1) := dk_172 (dk_at dksX53_mix_2 15 rfl rfl)
theorem dX53_mix_64 : decode cX53_mix 64 = .ok (.aload_n 0, 1) := dk_42 (dk_at dksX53_mix_2 16 rfl rfl)
theorem dX53_mix_65 : decode cX53_mix 65 = .ok (.getfield 22, 3) := dk_180 0 22 (dk_at dksX53_mix_2 17 rfl rfl)
theorem dX53_mix_68 : decode cX53_mix 68 = .ok (.iload_n 2, 1) := dk_28 (dk_at dksX53_mix_2 20 rfl rfl)
theorem dX53_mix_69 : decode cX53_mix 69 = .ok (.laload, 1) := dk_47 (dk_at dksX53_mix_2 21 rfl rfl)
theorem dX53_mix_70 : decode cX53_mix 70 = .ok (.lstore 4, 2) := dk_55 4 (dk_at dksX53_mix_2 22 rfl rfl)
theorem dX53_mix_72 : decode cX53_mix 72 = .ok (.aload_n 0, 1) := dk_42 (dk_at dksX53_mix_3 0 rfl rfl)
theorem dX53_mix_73 : decode cX53_mix 73 = .ok (.getfield 26, 3) := dk_180 0 26 (dk_at dksX53_mix_3 1 rfl rfl)
theorem dX53_mix_76 : decode cX53_mix 76 = .ok (.iload_n 2, 1) := dk_28 (dk_at dksX53_mix_3 4 rfl rfl)
theorem dX53_mix_77 : decode cX53_mix 77 = .ok (.laload, 1) := dk_47 (dk_at dksX53_mix_3 5 rfl rfl)
theorem dX53_mix_78 : decode cX53_mix 78 = .ok (.lstore 6, 2) := dk_55 6 (dk_at dksX53_mix_3 6 rfl rfl)
theorem dX53_mix_80 : decode cX53_mix 80 = .ok (.aload_n 0, 1) := dk_42 (dk_at dksX53_mix_3 8 rfl rfl)
theorem dX53_mix_81 : decode cX53_mix 81 = .ok (.getfield 33, 3) := dk_180 0 33 (dk_at dksX53_mix_3 9 rfl rfl)
theorem dX53_mix_84 : decode cX53_mix 84 = .ok (.iload_n 2, 1) := dk_28 (dk_at dksX53_mix_3 12 rfl rfl)
theorem dX53_mix_85 : decode cX53_mix 85 = .ok (.iaload, 1) := dk_46 (dk_at dksX53_mix_3 13 rfl rfl)
theorem dX53_mix_86 : decode cX53_mix 86 = .ok (.istore 8, 2) := dk_54 8 (dk_at dksX53_mix_3 14 rfl rfl)
theorem dX53_mix_88 : decode cX53_mix 88 = .ok (.aload_n 0, 1) := dk_42 (dk_at dksX53_mix_3 16 rfl rfl)
theorem dX53_mix_89 : decode cX53_mix 89 = .ok (.getfield 22, 3) := dk_180 0 22 (dk_at dksX53_mix_3 17 rfl rfl)
theorem dX53_mix_92 : decode cX53_mix 92 = .ok (.iload_n 1, 1) := dk_27 (dk_at dksX53_mix_3 20 rfl rfl)
theorem dX53_mix_93 : decode cX53_mix 93 = .ok (.dup2, 1) := dk_92 (dk_at dksX53_mix_3 21 rfl rfl)
theorem dX53_mix_94 : decode cX53_mix 94 = .ok (.laload, 1) := dk_47 (dk_at dksX53_mix_3 22 rfl rfl)
theorem dX53_mix_95 : decode cX53_mix 95 = .ok (.lload 4, 2) := dk_22 4 (dk_at dksX53_mix_4 0 rfl rfl)
theorem dX53_mix_97 : decode cX53_mix 97 = .ok (.ladd, 1) := dk_97 (dk_at dksX53_mix_4 2 rfl rfl)
theorem dX53_mix_98 : decode cX53_mix 98 = .ok (.lastore, 1) := dk_80 (dk_at dksX53_mix_4 3 rfl rfl)
theorem dX53_mix_99 : decode cX53_mix 99 = .ok (.aload_n 0, 1) := dk_42 (dk_at dksX53_mix_4 4 rfl rfl)
theorem dX53_mix_100 : decode cX53_mix 100 = .ok (.getfield 26, 3) := dk_180 0 26 (dk_at dksX53_mix_4 5 rfl rfl)
theorem dX53_mix_103 : decode cX53_mix 103 = .ok (.iload_n 1, 1) := dk_27 (dk_at dksX53_mix_4 8 rfl rfl)
theorem dX53_mix_104 : decode cX53_mix 104 = .ok (.dup2, 1) := dk_92 (dk_at dksX53_mix_4 9 rfl rfl)
theorem dX53_mix_105 : decode cX53_mix 105 = .ok (.laload, 1) := dk_47 (dk_at dksX53_mix_4 10 rfl rfl)
theorem dX53_mix_106 : decode cX53_mix 106 = .ok (.lload 6, 2) := dk_22 6 (dk_at dksX53_mix_4 11 rfl rfl)
theorem dX53_mix_108 : decode cX53_mix 108 = .ok (.ladd, 1) := dk_97 (dk_at dksX53_mix_4 13 rfl rfl)
theorem dX53_mix_109 : decode cX53_mix 109 = .ok (.lastore, 1) := dk_80 (dk_at dksX53_mix_4 14 rfl rfl)
theorem dX53_mix_110 : decode cX53_mix 110 = .ok (.aload_n 0, 1) := dk_42 (dk_at dksX53_mix_4 15 rfl rfl)
theorem dX53_mix_111 : decode cX53_mix 111 = .ok (.getfield 33, 3) := dk_180 0 33 (dk_at dksX53_mix_4 16 rfl rfl)
theorem dX53_mix_114 : decode cX53_mix 114 = .ok (.iload_n 2, 1) := dk_28 (dk_at dksX53_mix_4 19 rfl rfl)
theorem dX53_mix_115 : decode cX53_mix 115 = .ok (.iconst (-1), 1) := dk_2 (dk_at dksX53_mix_4 20 rfl rfl)
theorem dX53_mix_116 : decode cX53_mix 116 = .ok (.iastore, 1) := dk_79 (dk_at dksX53_mix_4 21 rfl rfl)
theorem dX53_mix_117 : decode cX53_mix 117 = .ok (.aload_n 0, 1) := dk_42 (dk_at dksX53_mix_4 22 rfl rfl)
theorem dX53_mix_118 : decode cX53_mix 118 = .ok (.aload_n 0, 1) := dk_42 (dk_at dksX53_mix_4 23 rfl rfl)
theorem dX53_mix_119 : decode cX53_mix 119 = .ok (.getfield 33, 3) := dk_180 0 33 (dk_at dksX53_mix_5 0 rfl rfl)
theorem dX53_mix_122 : decode cX53_mix 122 = .ok (.invokevirtual 124, 3) := dk_182 0 124 (dk_at dksX53_mix_5 3 rfl rfl)
theorem dX53_mix_125 : decode cX53_mix 125 = .ok (.ifCond .ne 35, 3) := dk_154 0 35 (dk_at dksX53_mix_5 6 rfl rfl)
theorem dX53_mix_128 : decode cX53_mix 128 = .ok (.aload_n 0, 1) := dk_42 (dk_at dksX53_mix_5 9 rfl rfl)
theorem dX53_mix_129 : decode cX53_mix 129 = .ok (.getfield 22, 3) := dk_180 0 22 (dk_at dksX53_mix_5 10 rfl rfl)
theorem dX53_mix_132 : decode cX53_mix 132 = .ok (.iload_n 1, 1) := dk_27 (dk_at dksX53_mix_5 13 rfl rfl)
theorem dX53_mix_133 : decode cX53_mix 133 = .ok (.dup2, 1) := dk_92 (dk_at dksX53_mix_5 14 rfl rfl)
theorem dX53_mix_134 : decode cX53_mix 134 = .ok (.laload, 1) := dk_47 (dk_at dksX53_mix_5 15 rfl rfl)
theorem dX53_mix_135 : decode cX53_mix 135 = .ok (.lload 4, 2) := dk_22 4 (dk_at dksX53_mix_5 16 rfl rfl)
theorem dX53_mix_137 : decode cX53_mix 137 = .ok (.lsub, 1) := dk_101 (dk_at dksX53_mix_5 18 rfl rfl)
theorem dX53_mix_138 : decode cX53_mix 138 = .ok (.lastore, 1) := dk_80 (dk_at dksX53_mix_5 19 rfl rfl)
theorem dX53_mix_139 : decode cX53_mix 139 = .ok (.aload_n 0, 1) := dk_42 (dk_at dksX53_mix_5 20 rfl rfl)
theorem dX53_mix_140 : decode cX53_mix 140 = .ok (.getfield 26, 3) := dk_180 0 26 (dk_at dksX53_mix_5 21 rfl rfl)
theorem dX53_mix_143 : decode cX53_mix 143 = .ok (.iload_n 1, 1) := dk_27 (dk_at dksX53_mix_6 0 rfl rfl)
theorem dX53_mix_144 : decode cX53_mix 144 = .ok (.dup2, 1) := dk_92 (dk_at dksX53_mix_6 1 rfl rfl)
theorem dX53_mix_145 : decode cX53_mix 145 = .ok (.laload, 1) := dk_47 (dk_at dksX53_mix_6 2 rfl rfl)
theorem dX53_mix_146 : decode cX53_mix 146 = .ok (.lload 6, 2) := dk_22 6 (dk_at dksX53_mix_6 3 rfl rfl)
theorem dX53_mix_148 : decode cX53_mix 148 = .ok (.lsub, 1) := dk_101 (dk_at dksX53_mix_6 5 rfl rfl)
theorem dX53_mix_149 : decode cX53_mix 149 = .ok (.lastore, 1) := dk_80 (dk_at dksX53_mix_6 6 rfl rfl)
theorem dX53_mix_150 : decode cX53_mix 150 = .ok (.aload_n 0, 1) := dk_42 (dk_at dksX53_mix_6 7 rfl rfl)
theorem dX53_mix_151 : decode cX53_mix 151 = .ok (.getfield 33, 3) := dk_180 0 33 (dk_at dksX53_mix_6 8 rfl rfl)
theorem dX53_mix_154 : decode cX53_mix 154 = .ok (.iload_n 2, 1) := dk_28 (dk_at dksX53_mix_6 11 rfl rfl)
theorem dX53_mix_155 : decode cX53_mix 155 = .ok (.iload 8, 2) := dk_21 8 (dk_at dksX53_mix_6 12 rfl rfl)
theorem dX53_mix_157 : decode cX53_mix 157 = .ok (.iastore, 1) := dk_79 (dk_at dksX53_mix_6 14 rfl rfl)
theorem dX53_mix_158 : decode cX53_mix 158 = .ok (.iconst 4, 1) := dk_7 (dk_at dksX53_mix_6 15 rfl rfl)
theorem dX53_mix_159 : decode cX53_mix 159 = .ok (.ireturn, 1) := dk_172 (dk_at dksX53_mix_6 16 rfl rfl)
theorem dX53_mix_160 : decode cX53_mix 160 = .ok (.aload_n 0, 1) := dk_42 (dk_at dksX53_mix_6 17 rfl rfl)
theorem dX53_mix_161 : decode cX53_mix 161 = .ok (.getfield 29, 3) := dk_180 0 29 (dk_at dksX53_mix_6 18 rfl rfl)
theorem dX53_mix_164 : decode cX53_mix 164 = .ok (.iload_n 2, 1) := dk_28 (dk_at dksX53_mix_6 21 rfl rfl)
theorem dX53_mix_165 : decode cX53_mix 165 = .ok (.iconst 1, 1) := dk_4 (dk_at dksX53_mix_6 22 rfl rfl)
theorem dX53_mix_166 : decode cX53_mix 166 = .ok (.bastore, 1) := dk_84 (dk_at dksX53_mix_6 23 rfl rfl)
theorem dX53_mix_167 : decode cX53_mix 167 = .ok (.iconst 0, 1) := dk_3 (dk_at dksX53_mix_7 0 rfl rfl)
theorem dX53_mix_168 : decode cX53_mix 168 = .ok (.istore 9, 2) := dk_54 9 (dk_at dksX53_mix_7 1 rfl rfl)
theorem dX53_mix_170 : decode cX53_mix 170 = .ok (.iload 9, 2) := dk_21 9 (dk_at dksX53_mix_7 3 rfl rfl)
theorem dX53_mix_172 : decode cX53_mix 172 = .ok (.bipush 6, 2) := dk_16 6 (dk_at dksX53_mix_7 5 rfl rfl)
theorem dX53_mix_174 : decode cX53_mix 174 = .ok (.if_icmp .ge 61, 3) := dk_162 0 61 (dk_at dksX53_mix_7 7 rfl rfl)
theorem dX53_mix_177 : decode cX53_mix 177 = .ok (.aload_n 0, 1) := dk_42 (dk_at dksX53_mix_7 10 rfl rfl)
theorem dX53_mix_178 : decode cX53_mix 178 = .ok (.getfield 45, 3) := dk_180 0 45 (dk_at dksX53_mix_7 11 rfl rfl)
theorem dX53_mix_181 : decode cX53_mix 181 = .ok (.bipush 6, 2) := dk_16 6 (dk_at dksX53_mix_7 14 rfl rfl)
theorem dX53_mix_183 : decode cX53_mix 183 = .ok (.iload_n 1, 1) := dk_27 (dk_at dksX53_mix_7 16 rfl rfl)
theorem dX53_mix_184 : decode cX53_mix 184 = .ok (.imul, 1) := dk_104 (dk_at dksX53_mix_7 17 rfl rfl)
theorem dX53_mix_185 : decode cX53_mix 185 = .ok (.iload 9, 2) := dk_21 9 (dk_at dksX53_mix_7 18 rfl rfl)
theorem dX53_mix_187 : decode cX53_mix 187 = .ok (.iadd, 1) := dk_96 (dk_at dksX53_mix_7 20 rfl rfl)
theorem dX53_mix_188 : decode cX53_mix 188 = .ok (.iconst 0, 1) := dk_3 (dk_at dksX53_mix_7 21 rfl rfl)
theorem dX53_mix_189 : decode cX53_mix 189 = .ok (.iastore, 1) := dk_79 (dk_at dksX53_mix_7 22 rfl rfl)
theorem dX53_mix_190 : decode cX53_mix 190 = .ok (.aload_n 0, 1) := dk_42 (dk_at dksX53_mix_7 23 rfl rfl)
theorem dX53_mix_191 : decode cX53_mix 191 = .ok (.getfield 45, 3) := dk_180 0 45 (dk_at dksX53_mix_8 0 rfl rfl)
theorem dX53_mix_194 : decode cX53_mix 194 = .ok (.bipush 6, 2) := dk_16 6 (dk_at dksX53_mix_8 3 rfl rfl)
theorem dX53_mix_196 : decode cX53_mix 196 = .ok (.iload 9, 2) := dk_21 9 (dk_at dksX53_mix_8 5 rfl rfl)
theorem dX53_mix_198 : decode cX53_mix 198 = .ok (.imul, 1) := dk_104 (dk_at dksX53_mix_8 7 rfl rfl)
theorem dX53_mix_199 : decode cX53_mix 199 = .ok (.iload_n 1, 1) := dk_27 (dk_at dksX53_mix_8 8 rfl rfl)
theorem dX53_mix_200 : decode cX53_mix 200 = .ok (.iadd, 1) := dk_96 (dk_at dksX53_mix_8 9 rfl rfl)
theorem dX53_mix_201 : decode cX53_mix 201 = .ok (.iconst 0, 1) := dk_3 (dk_at dksX53_mix_8 10 rfl rfl)
theorem dX53_mix_202 : decode cX53_mix 202 = .ok (.iastore, 1) := dk_79 (dk_at dksX53_mix_8 11 rfl rfl)
theorem dX53_mix_203 : decode cX53_mix 203 = .ok (.aload_n 0, 1) := dk_42 (dk_at dksX53_mix_8 12 rfl rfl)
theorem dX53_mix_204 : decode cX53_mix 204 = .ok (.getfield 45, 3) := dk_180 0 45 (dk_at dksX53_mix_8 13 rfl rfl)
theorem dX53_mix_207 : decode cX53_mix 207 = .ok (.bipush 6, 2) := dk_16 6 (dk_at dksX53_mix_8 16 rfl rfl)
theorem dX53_mix_209 : decode cX53_mix 209 = .ok (.iload_n 2, 1) := dk_28 (dk_at dksX53_mix_8 18 rfl rfl)
theorem dX53_mix_210 : decode cX53_mix 210 = .ok (.imul, 1) := dk_104 (dk_at dksX53_mix_8 19 rfl rfl)
theorem dX53_mix_211 : decode cX53_mix 211 = .ok (.iload 9, 2) := dk_21 9 (dk_at dksX53_mix_8 20 rfl rfl)
theorem dX53_mix_213 : decode cX53_mix 213 = .ok (.iadd, 1) := dk_96 (dk_at dksX53_mix_8 22 rfl rfl)
theorem dX53_mix_214 : decode cX53_mix 214 = .ok (.iconst 0, 1) := dk_3 (dk_at dksX53_mix_8 23 rfl rfl)
theorem dX53_mix_215 : decode cX53_mix 215 = .ok (.iastore, 1) := dk_79 (dk_at dksX53_mix_9 0 rfl rfl)
theorem dX53_mix_216 : decode cX53_mix 216 = .ok (.aload_n 0, 1) := dk_42 (dk_at dksX53_mix_9 1 rfl rfl)
theorem dX53_mix_217 : decode cX53_mix 217 = .ok (.getfield 45, 3) := dk_180 0 45 (dk_at dksX53_mix_9 2 rfl rfl)
theorem dX53_mix_220 : decode cX53_mix 220 = .ok (.bipush 6, 2) := dk_16 6 (dk_at dksX53_mix_9 5 rfl rfl)
theorem dX53_mix_222 : decode cX53_mix 222 = .ok (.iload 9, 2) := dk_21 9 (dk_at dksX53_mix_9 7 rfl rfl)
theorem dX53_mix_224 : decode cX53_mix 224 = .ok (.imul, 1) := dk_104 (dk_at dksX53_mix_9 9 rfl rfl)
theorem dX53_mix_225 : decode cX53_mix 225 = .ok (.iload_n 2, 1) := dk_28 (dk_at dksX53_mix_9 10 rfl rfl)
theorem dX53_mix_226 : decode cX53_mix 226 = .ok (.iadd, 1) := dk_96 (dk_at dksX53_mix_9 11 rfl rfl)
theorem dX53_mix_227 : decode cX53_mix 227 = .ok (.iconst 0, 1) := dk_3 (dk_at dksX53_mix_9 12 rfl rfl)
theorem dX53_mix_228 : decode cX53_mix 228 = .ok (.iastore, 1) := dk_79 (dk_at dksX53_mix_9 13 rfl rfl)
theorem dX53_mix_229 : decode cX53_mix 229 = .ok (.iinc 9 1, 3) := dk_132 9 1 (dk_at dksX53_mix_9 14 rfl rfl)
theorem dX53_mix_232 : decode cX53_mix 232 = .ok (.goto (-62), 3) := dk_167 255 194 (dk_at dksX53_mix_9 17 rfl rfl)
theorem dX53_mix_235 : decode cX53_mix 235 = .ok (.iconst 0, 1) := dk_3 (dk_at dksX53_mix_9 20 rfl rfl)
theorem dX53_mix_236 : decode cX53_mix 236 = .ok (.ireturn, 1) := dk_172 (dk_at dksX53_mix_9 21 rfl rfl)
abbrev cX53_key : ByteArray := prog_58_method_36_code
def yX53_key : MethodName := ⟨RX53, "key", "(II)Z"⟩
def dkwX53_key_1 : List UInt8 := [27, 104, 28, 96, 51, 153, 0, 5, 3, 172, 42, 180, 0, 48, 16, 10, 27, 104, 28, 96, 4, 84, 4, 172]
abbrev dktX53_key_1 : List UInt8 := dkwX53_key_1 ++ []
def dkwX53_key_0 : List UInt8 := [42, 27, 182, 0, 128, 153, 0, 27, 28, 155, 0, 23, 28, 16, 10, 162, 0, 17, 42, 180, 0, 48, 16, 10]
abbrev dktX53_key_0 : List UInt8 := dkwX53_key_0 ++ dktX53_key_1
theorem dksX53_key_0 : cX53_key.data.toList.drop 0 = dktX53_key_0 := by decide +kernel
theorem dksX53_key_1 : cX53_key.data.toList.drop 24 = dktX53_key_1 := dk_seg dksX53_key_0 24 rfl rfl
theorem dX53_key_0 : decode cX53_key 0 = .ok (.aload_n 0, 1) := dk_42 (dk_at dksX53_key_0 0 rfl rfl)
theorem dX53_key_1 : decode cX53_key 1 = .ok (.iload_n 1, 1) := dk_27 (dk_at dksX53_key_0 1 rfl rfl)
theorem dX53_key_2 : decode cX53_key 2 = .ok (.invokevirtual 128, 3) := dk_182 0 128 (dk_at dksX53_key_0 2 rfl rfl)
theorem dX53_key_5 : decode cX53_key 5 = .ok (.ifCond .eq 27, 3) := dk_153 0 27 (dk_at dksX53_key_0 5 rfl rfl)
theorem dX53_key_8 : decode cX53_key 8 = .ok (.iload_n 2, 1) := dk_28 (dk_at dksX53_key_0 8 rfl rfl)
theorem dX53_key_9 : decode cX53_key 9 = .ok (.ifCond .lt 23, 3) := dk_155 0 23 (dk_at dksX53_key_0 9 rfl rfl)
theorem dX53_key_12 : decode cX53_key 12 = .ok (.iload_n 2, 1) := dk_28 (dk_at dksX53_key_0 12 rfl rfl)
theorem dX53_key_13 : decode cX53_key 13 = .ok (.bipush 10, 2) := dk_16 10 (dk_at dksX53_key_0 13 rfl rfl)
theorem dX53_key_15 : decode cX53_key 15 = .ok (.if_icmp .ge 17, 3) := dk_162 0 17 (dk_at dksX53_key_0 15 rfl rfl)
theorem dX53_key_18 : decode cX53_key 18 = .ok (.aload_n 0, 1) := dk_42 (dk_at dksX53_key_0 18 rfl rfl)
theorem dX53_key_19 : decode cX53_key 19 = .ok (.getfield 48, 3) := dk_180 0 48 (dk_at dksX53_key_0 19 rfl rfl)
theorem dX53_key_22 : decode cX53_key 22 = .ok (.bipush 10, 2) := dk_16 10 (dk_at dksX53_key_0 22 rfl rfl)
theorem dX53_key_24 : decode cX53_key 24 = .ok (.iload_n 1, 1) := dk_27 (dk_at dksX53_key_1 0 rfl rfl)
theorem dX53_key_25 : decode cX53_key 25 = .ok (.imul, 1) := dk_104 (dk_at dksX53_key_1 1 rfl rfl)
theorem dX53_key_26 : decode cX53_key 26 = .ok (.iload_n 2, 1) := dk_28 (dk_at dksX53_key_1 2 rfl rfl)
theorem dX53_key_27 : decode cX53_key 27 = .ok (.iadd, 1) := dk_96 (dk_at dksX53_key_1 3 rfl rfl)
theorem dX53_key_28 : decode cX53_key 28 = .ok (.baload, 1) := dk_51 (dk_at dksX53_key_1 4 rfl rfl)
theorem dX53_key_29 : decode cX53_key 29 = .ok (.ifCond .eq 5, 3) := dk_153 0 5 (dk_at dksX53_key_1 5 rfl rfl)
theorem dX53_key_32 : decode cX53_key 32 = .ok (.iconst 0, 1) := dk_3 (dk_at dksX53_key_1 8 rfl rfl)
theorem dX53_key_33 : decode cX53_key 33 = .ok (.ireturn, 1) := dk_172 (dk_at dksX53_key_1 9 rfl rfl)
theorem dX53_key_34 : decode cX53_key 34 = .ok (.aload_n 0, 1) := dk_42 (dk_at dksX53_key_1 10 rfl rfl)
theorem dX53_key_35 : decode cX53_key 35 = .ok (.getfield 48, 3) := dk_180 0 48 (dk_at dksX53_key_1 11 rfl rfl)
theorem dX53_key_38 : decode cX53_key 38 = .ok (.bipush 10, 2) := dk_16 10 (dk_at dksX53_key_1 14 rfl rfl)
theorem dX53_key_40 : decode cX53_key 40 = .ok (.iload_n 1, 1) := dk_27 (dk_at dksX53_key_1 16 rfl rfl)
theorem dX53_key_41 : decode cX53_key 41 = .ok (.imul, 1) := dk_104 (dk_at dksX53_key_1 17 rfl rfl)
theorem dX53_key_42 : decode cX53_key 42 = .ok (.iload_n 2, 1) := dk_28 (dk_at dksX53_key_1 18 rfl rfl)
theorem dX53_key_43 : decode cX53_key 43 = .ok (.iadd, 1) := dk_96 (dk_at dksX53_key_1 19 rfl rfl)
theorem dX53_key_44 : decode cX53_key 44 = .ok (.iconst 1, 1) := dk_4 (dk_at dksX53_key_1 20 rfl rfl)
theorem dX53_key_45 : decode cX53_key 45 = .ok (.bastore, 1) := dk_84 (dk_at dksX53_key_1 21 rfl rfl)
theorem dX53_key_46 : decode cX53_key 46 = .ok (.iconst 1, 1) := dk_4 (dk_at dksX53_key_1 22 rfl rfl)
theorem dX53_key_47 : decode cX53_key 47 = .ok (.ireturn, 1) := dk_172 (dk_at dksX53_key_1 23 rfl rfl)
abbrev cX53_open : ByteArray := prog_58_method_37_code
def yX53_open : MethodName := ⟨RX53, "open", "(II)Z"⟩
def dkwX53_open_1 : List UInt8 := [27, 104, 28, 96, 51, 153, 0, 7, 4, 167, 0, 4, 3, 172]
abbrev dktX53_open_1 : List UInt8 := dkwX53_open_1 ++ []
def dkwX53_open_0 : List UInt8 := [42, 27, 182, 0, 128, 153, 0, 31, 28, 155, 0, 27, 28, 16, 10, 162, 0, 21, 42, 180, 0, 48, 16, 10]
abbrev dktX53_open_0 : List UInt8 := dkwX53_open_0 ++ dktX53_open_1
theorem dksX53_open_0 : cX53_open.data.toList.drop 0 = dktX53_open_0 := by decide +kernel
theorem dksX53_open_1 : cX53_open.data.toList.drop 24 = dktX53_open_1 := dk_seg dksX53_open_0 24 rfl rfl
theorem dX53_open_0 : decode cX53_open 0 = .ok (.aload_n 0, 1) := dk_42 (dk_at dksX53_open_0 0 rfl rfl)
theorem dX53_open_1 : decode cX53_open 1 = .ok (.iload_n 1, 1) := dk_27 (dk_at dksX53_open_0 1 rfl rfl)
theorem dX53_open_2 : decode cX53_open 2 = .ok (.invokevirtual 128, 3) := dk_182 0 128 (dk_at dksX53_open_0 2 rfl rfl)
theorem dX53_open_5 : decode cX53_open 5 = .ok (.ifCond .eq 31, 3) := dk_153 0 31 (dk_at dksX53_open_0 5 rfl rfl)
theorem dX53_open_8 : decode cX53_open 8 = .ok (.iload_n 2, 1) := dk_28 (dk_at dksX53_open_0 8 rfl rfl)
theorem dX53_open_9 : decode cX53_open 9 = .ok (.ifCond .lt 27, 3) := dk_155 0 27 (dk_at dksX53_open_0 9 rfl rfl)
theorem dX53_open_12 : decode cX53_open 12 = .ok (.iload_n 2, 1) := dk_28 (dk_at dksX53_open_0 12 rfl rfl)
theorem dX53_open_13 : decode cX53_open 13 = .ok (.bipush 10, 2) := dk_16 10 (dk_at dksX53_open_0 13 rfl rfl)
theorem dX53_open_15 : decode cX53_open 15 = .ok (.if_icmp .ge 21, 3) := dk_162 0 21 (dk_at dksX53_open_0 15 rfl rfl)
theorem dX53_open_18 : decode cX53_open 18 = .ok (.aload_n 0, 1) := dk_42 (dk_at dksX53_open_0 18 rfl rfl)
theorem dX53_open_19 : decode cX53_open 19 = .ok (.getfield 48, 3) := dk_180 0 48 (dk_at dksX53_open_0 19 rfl rfl)
theorem dX53_open_22 : decode cX53_open 22 = .ok (.bipush 10, 2) := dk_16 10 (dk_at dksX53_open_0 22 rfl rfl)
theorem dX53_open_24 : decode cX53_open 24 = .ok (.iload_n 1, 1) := dk_27 (dk_at dksX53_open_1 0 rfl rfl)
theorem dX53_open_25 : decode cX53_open 25 = .ok (.imul, 1) := dk_104 (dk_at dksX53_open_1 1 rfl rfl)
theorem dX53_open_26 : decode cX53_open 26 = .ok (.iload_n 2, 1) := dk_28 (dk_at dksX53_open_1 2 rfl rfl)
theorem dX53_open_27 : decode cX53_open 27 = .ok (.iadd, 1) := dk_96 (dk_at dksX53_open_1 3 rfl rfl)
theorem dX53_open_28 : decode cX53_open 28 = .ok (.baload, 1) := dk_51 (dk_at dksX53_open_1 4 rfl rfl)
theorem dX53_open_29 : decode cX53_open 29 = .ok (.ifCond .eq 7, 3) := dk_153 0 7 (dk_at dksX53_open_1 5 rfl rfl)
theorem dX53_open_32 : decode cX53_open 32 = .ok (.iconst 1, 1) := dk_4 (dk_at dksX53_open_1 8 rfl rfl)
theorem dX53_open_33 : decode cX53_open 33 = .ok (.goto 4, 3) := dk_167 0 4 (dk_at dksX53_open_1 9 rfl rfl)
theorem dX53_open_36 : decode cX53_open 36 = .ok (.iconst 0, 1) := dk_3 (dk_at dksX53_open_1 12 rfl rfl)
theorem dX53_open_37 : decode cX53_open 37 = .ok (.ireturn, 1) := dk_172 (dk_at dksX53_open_1 13 rfl rfl)
abbrev cX53_first : ByteArray := prog_58_method_38_code
def yX53_first : MethodName := ⟨RX53, "first", "(I)I"⟩
def dkwX53_first_3 : List UInt8 := [167, 255, 189, 28, 172]
abbrev dktX53_first_3 : List UInt8 := dkwX53_first_3 ++ []
def dkwX53_first_2 : List UInt8 := [42, 180, 0, 36, 29, 46, 42, 180, 0, 36, 28, 46, 162, 0, 7, 29, 167, 0, 4, 28, 61, 132, 3, 1]
abbrev dktX53_first_2 : List UInt8 := dkwX53_first_2 ++ dktX53_first_3
def dkwX53_first_1 : List UInt8 := [180, 0, 33, 29, 46, 155, 0, 7, 4, 167, 0, 4, 3, 54, 4, 21, 4, 153, 0, 26, 28, 155, 0, 18]
abbrev dktX53_first_1 : List UInt8 := dkwX53_first_1 ++ dktX53_first_2
def dkwX53_first_0 : List UInt8 := [2, 61, 3, 62, 29, 42, 180, 0, 81, 162, 0, 65, 42, 180, 0, 19, 29, 46, 27, 160, 0, 16, 42]
abbrev dktX53_first_0 : List UInt8 := dkwX53_first_0 ++ dktX53_first_1
theorem dksX53_first_0 : cX53_first.data.toList.drop 0 = dktX53_first_0 := by decide +kernel
theorem dksX53_first_1 : cX53_first.data.toList.drop 23 = dktX53_first_1 := dk_seg dksX53_first_0 23 rfl rfl
theorem dksX53_first_2 : cX53_first.data.toList.drop 47 = dktX53_first_2 := dk_seg dksX53_first_1 24 rfl rfl
theorem dksX53_first_3 : cX53_first.data.toList.drop 71 = dktX53_first_3 := dk_seg dksX53_first_2 24 rfl rfl
theorem dX53_first_0 : decode cX53_first 0 = .ok (.iconst (-1), 1) := dk_2 (dk_at dksX53_first_0 0 rfl rfl)
theorem dX53_first_1 : decode cX53_first 1 = .ok (.istore_n 2, 1) := dk_61 (dk_at dksX53_first_0 1 rfl rfl)
theorem dX53_first_2 : decode cX53_first 2 = .ok (.iconst 0, 1) := dk_3 (dk_at dksX53_first_0 2 rfl rfl)
theorem dX53_first_3 : decode cX53_first 3 = .ok (.istore_n 3, 1) := dk_62 (dk_at dksX53_first_0 3 rfl rfl)
theorem dX53_first_4 : decode cX53_first 4 = .ok (.iload_n 3, 1) := dk_29 (dk_at dksX53_first_0 4 rfl rfl)
theorem dX53_first_5 : decode cX53_first 5 = .ok (.aload_n 0, 1) := dk_42 (dk_at dksX53_first_0 5 rfl rfl)
theorem dX53_first_6 : decode cX53_first 6 = .ok (.getfield 81, 3) := dk_180 0 81 (dk_at dksX53_first_0 6 rfl rfl)
theorem dX53_first_9 : decode cX53_first 9 = .ok (.if_icmp .ge 65, 3) := dk_162 0 65 (dk_at dksX53_first_0 9 rfl rfl)
theorem dX53_first_12 : decode cX53_first 12 = .ok (.aload_n 0, 1) := dk_42 (dk_at dksX53_first_0 12 rfl rfl)
theorem dX53_first_13 : decode cX53_first 13 = .ok (.getfield 19, 3) := dk_180 0 19 (dk_at dksX53_first_0 13 rfl rfl)
theorem dX53_first_16 : decode cX53_first 16 = .ok (.iload_n 3, 1) := dk_29 (dk_at dksX53_first_0 16 rfl rfl)
theorem dX53_first_17 : decode cX53_first 17 = .ok (.iaload, 1) := dk_46 (dk_at dksX53_first_0 17 rfl rfl)
theorem dX53_first_18 : decode cX53_first 18 = .ok (.iload_n 1, 1) := dk_27 (dk_at dksX53_first_0 18 rfl rfl)
theorem dX53_first_19 : decode cX53_first 19 = .ok (.if_icmp .ne 16, 3) := dk_160 0 16 (dk_at dksX53_first_0 19 rfl rfl)
theorem dX53_first_22 : decode cX53_first 22 = .ok (.aload_n 0, 1) := dk_42 (dk_at dksX53_first_0 22 rfl rfl)
theorem dX53_first_23 : decode cX53_first 23 = .ok (.getfield 33, 3) := dk_180 0 33 (dk_at dksX53_first_1 0 rfl rfl)
theorem dX53_first_26 : decode cX53_first 26 = .ok (.iload_n 3, 1) := dk_29 (dk_at dksX53_first_1 3 rfl rfl)
theorem dX53_first_27 : decode cX53_first 27 = .ok (.iaload, 1) := dk_46 (dk_at dksX53_first_1 4 rfl rfl)
theorem dX53_first_28 : decode cX53_first 28 = .ok (.ifCond .lt 7, 3) := dk_155 0 7 (dk_at dksX53_first_1 5 rfl rfl)
theorem dX53_first_31 : decode cX53_first 31 = .ok (.iconst 1, 1) := dk_4 (dk_at dksX53_first_1 8 rfl rfl)
theorem dX53_first_32 : decode cX53_first 32 = .ok (.goto 4, 3) := dk_167 0 4 (dk_at dksX53_first_1 9 rfl rfl)
theorem dX53_first_35 : decode cX53_first 35 = .ok (.iconst 0, 1) := dk_3 (dk_at dksX53_first_1 12 rfl rfl)
theorem dX53_first_36 : decode cX53_first 36 = .ok (.istore 4, 2) := dk_54 4 (dk_at dksX53_first_1 13 rfl rfl)
theorem dX53_first_38 : decode cX53_first 38 = .ok (.iload 4, 2) := dk_21 4 (dk_at dksX53_first_1 15 rfl rfl)
theorem dX53_first_40 : decode cX53_first 40 = .ok (.ifCond .eq 26, 3) := dk_153 0 26 (dk_at dksX53_first_1 17 rfl rfl)
theorem dX53_first_43 : decode cX53_first 43 = .ok (.iload_n 2, 1) := dk_28 (dk_at dksX53_first_1 20 rfl rfl)
theorem dX53_first_44 : decode cX53_first 44 = .ok (.ifCond .lt 18, 3) := dk_155 0 18 (dk_at dksX53_first_1 21 rfl rfl)
theorem dX53_first_47 : decode cX53_first 47 = .ok (.aload_n 0, 1) := dk_42 (dk_at dksX53_first_2 0 rfl rfl)
theorem dX53_first_48 : decode cX53_first 48 = .ok (.getfield 36, 3) := dk_180 0 36 (dk_at dksX53_first_2 1 rfl rfl)
theorem dX53_first_51 : decode cX53_first 51 = .ok (.iload_n 3, 1) := dk_29 (dk_at dksX53_first_2 4 rfl rfl)
theorem dX53_first_52 : decode cX53_first 52 = .ok (.iaload, 1) := dk_46 (dk_at dksX53_first_2 5 rfl rfl)
theorem dX53_first_53 : decode cX53_first 53 = .ok (.aload_n 0, 1) := dk_42 (dk_at dksX53_first_2 6 rfl rfl)
theorem dX53_first_54 : decode cX53_first 54 = .ok (.getfield 36, 3) := dk_180 0 36 (dk_at dksX53_first_2 7 rfl rfl)
theorem dX53_first_57 : decode cX53_first 57 = .ok (.iload_n 2, 1) := dk_28 (dk_at dksX53_first_2 10 rfl rfl)
theorem dX53_first_58 : decode cX53_first 58 = .ok (.iaload, 1) := dk_46 (dk_at dksX53_first_2 11 rfl rfl)
theorem dX53_first_59 : decode cX53_first 59 = .ok (.if_icmp .ge 7, 3) := dk_162 0 7 (dk_at dksX53_first_2 12 rfl rfl)
theorem dX53_first_62 : decode cX53_first 62 = .ok (.iload_n 3, 1) := dk_29 (dk_at dksX53_first_2 15 rfl rfl)
theorem dX53_first_63 : decode cX53_first 63 = .ok (.goto 4, 3) := dk_167 0 4 (dk_at dksX53_first_2 16 rfl rfl)
theorem dX53_first_66 : decode cX53_first 66 = .ok (.iload_n 2, 1) := dk_28 (dk_at dksX53_first_2 19 rfl rfl)
theorem dX53_first_67 : decode cX53_first 67 = .ok (.istore_n 2, 1) := dk_61 (dk_at dksX53_first_2 20 rfl rfl)
theorem dX53_first_68 : decode cX53_first 68 = .ok (.iinc 3 1, 3) := dk_132 3 1 (dk_at dksX53_first_2 21 rfl rfl)
theorem dX53_first_71 : decode cX53_first 71 = .ok (.goto (-67), 3) := dk_167 255 189 (dk_at dksX53_first_3 0 rfl rfl)
theorem dX53_first_74 : decode cX53_first 74 = .ok (.iload_n 2, 1) := dk_28 (dk_at dksX53_first_3 3 rfl rfl)
theorem dX53_first_75 : decode cX53_first 75 = .ok (.ireturn, 1) := dk_172 (dk_at dksX53_first_3 4 rfl rfl)
abbrev cX53_drill : ByteArray := prog_58_method_39_code
def yX53_drill : MethodName := ⟨RX53, "drill", "(II)I"⟩
def dkwX53_drill_6 : List UInt8 := [132, 5, 1, 167, 255, 150, 21, 4, 28, 160, 0, 5, 29, 172, 132, 3, 1, 167, 255, 122, 2, 172]
abbrev dktX53_drill_6 : List UInt8 := dkwX53_drill_6 ++ []
def dkwX53_drill_5 : List UInt8 := [3, 54, 7, 21, 4, 21, 6, 154, 0, 8, 21, 7, 153, 0, 7, 4, 167, 0, 4, 3, 96, 54, 4]
abbrev dktX53_drill_5 : List UInt8 := dkwX53_drill_5 ++ dktX53_drill_6
def dkwX53_drill_4 : List UInt8 := [21, 5, 182, 0, 104, 42, 27, 29, 182, 0, 104, 160, 0, 13, 21, 5, 29, 162, 0, 7, 4, 167, 0, 4]
abbrev dktX53_drill_4 : List UInt8 := dkwX53_drill_4 ++ dktX53_drill_5
def dkwX53_drill_3 : List UInt8 := [21, 5, 27, 159, 0, 45, 42, 27, 21, 5, 182, 0, 104, 42, 27, 29, 182, 0, 104, 161, 0, 25, 42, 27]
abbrev dktX53_drill_3 : List UInt8 := dkwX53_drill_3 ++ dktX53_drill_4
def dkwX53_drill_2 : List UInt8 := [21, 5, 27, 160, 0, 12, 29, 27, 159, 0, 7, 4, 167, 0, 4, 3, 54, 6, 29, 27, 159, 0, 51]
abbrev dktX53_drill_2 : List UInt8 := dkwX53_drill_2 ++ dktX53_drill_3
def dkwX53_drill_1 : List UInt8 := [29, 42, 180, 0, 78, 162, 0, 132, 3, 54, 4, 3, 54, 5, 21, 5, 42, 180, 0, 78, 162, 0, 103]
abbrev dktX53_drill_1 : List UInt8 := dkwX53_drill_1 ++ dktX53_drill_2
def dkwX53_drill_0 : List UInt8 := [42, 27, 182, 0, 128, 153, 0, 15, 28, 155, 0, 11, 28, 42, 180, 0, 78, 161, 0, 5, 2, 172, 3, 62]
abbrev dktX53_drill_0 : List UInt8 := dkwX53_drill_0 ++ dktX53_drill_1
theorem dksX53_drill_0 : cX53_drill.data.toList.drop 0 = dktX53_drill_0 := by decide +kernel
theorem dksX53_drill_1 : cX53_drill.data.toList.drop 24 = dktX53_drill_1 := dk_seg dksX53_drill_0 24 rfl rfl
theorem dksX53_drill_2 : cX53_drill.data.toList.drop 47 = dktX53_drill_2 := dk_seg dksX53_drill_1 23 rfl rfl
theorem dksX53_drill_3 : cX53_drill.data.toList.drop 70 = dktX53_drill_3 := dk_seg dksX53_drill_2 23 rfl rfl
theorem dksX53_drill_4 : cX53_drill.data.toList.drop 94 = dktX53_drill_4 := dk_seg dksX53_drill_3 24 rfl rfl
theorem dksX53_drill_5 : cX53_drill.data.toList.drop 118 = dktX53_drill_5 := dk_seg dksX53_drill_4 24 rfl rfl
theorem dksX53_drill_6 : cX53_drill.data.toList.drop 141 = dktX53_drill_6 := dk_seg dksX53_drill_5 23 rfl rfl
theorem dX53_drill_0 : decode cX53_drill 0 = .ok (.aload_n 0, 1) := dk_42 (dk_at dksX53_drill_0 0 rfl rfl)
theorem dX53_drill_1 : decode cX53_drill 1 = .ok (.iload_n 1, 1) := dk_27 (dk_at dksX53_drill_0 1 rfl rfl)
theorem dX53_drill_2 : decode cX53_drill 2 = .ok (.invokevirtual 128, 3) := dk_182 0 128 (dk_at dksX53_drill_0 2 rfl rfl)
theorem dX53_drill_5 : decode cX53_drill 5 = .ok (.ifCond .eq 15, 3) := dk_153 0 15 (dk_at dksX53_drill_0 5 rfl rfl)
theorem dX53_drill_8 : decode cX53_drill 8 = .ok (.iload_n 2, 1) := dk_28 (dk_at dksX53_drill_0 8 rfl rfl)
theorem dX53_drill_9 : decode cX53_drill 9 = .ok (.ifCond .lt 11, 3) := dk_155 0 11 (dk_at dksX53_drill_0 9 rfl rfl)
theorem dX53_drill_12 : decode cX53_drill 12 = .ok (.iload_n 2, 1) := dk_28 (dk_at dksX53_drill_0 12 rfl rfl)
theorem dX53_drill_13 : decode cX53_drill 13 = .ok (.aload_n 0, 1) := dk_42 (dk_at dksX53_drill_0 13 rfl rfl)
theorem dX53_drill_14 : decode cX53_drill 14 = .ok (.getfield 78, 3) := dk_180 0 78 (dk_at dksX53_drill_0 14 rfl rfl)
theorem dX53_drill_17 : decode cX53_drill 17 = .ok (.if_icmp .lt 5, 3) := dk_161 0 5 (dk_at dksX53_drill_0 17 rfl rfl)
theorem dX53_drill_20 : decode cX53_drill 20 = .ok (.iconst (-1), 1) := dk_2 (dk_at dksX53_drill_0 20 rfl rfl)
theorem dX53_drill_21 : decode cX53_drill 21 = .ok (.ireturn, 1) := dk_172 (dk_at dksX53_drill_0 21 rfl rfl)
theorem dX53_drill_22 : decode cX53_drill 22 = .ok (.iconst 0, 1) := dk_3 (dk_at dksX53_drill_0 22 rfl rfl)
theorem dX53_drill_23 : decode cX53_drill 23 = .ok (.istore_n 3, 1) := dk_62 (dk_at dksX53_drill_0 23 rfl rfl)
theorem dX53_drill_24 : decode cX53_drill 24 = .ok (.iload_n 3, 1) := dk_29 (dk_at dksX53_drill_1 0 rfl rfl)
theorem dX53_drill_25 : decode cX53_drill 25 = .ok (.aload_n 0, 1) := dk_42 (dk_at dksX53_drill_1 1 rfl rfl)
theorem dX53_drill_26 : decode cX53_drill 26 = .ok (.getfield 78, 3) := dk_180 0 78 (dk_at dksX53_drill_1 2 rfl rfl)
theorem dX53_drill_29 : decode cX53_drill 29 = .ok (.if_icmp .ge 132, 3) := dk_162 0 132 (dk_at dksX53_drill_1 5 rfl rfl)
theorem dX53_drill_32 : decode cX53_drill 32 = .ok (.iconst 0, 1) := dk_3 (dk_at dksX53_drill_1 8 rfl rfl)
theorem dX53_drill_33 : decode cX53_drill 33 = .ok (.istore 4, 2) := dk_54 4 (dk_at dksX53_drill_1 9 rfl rfl)
theorem dX53_drill_35 : decode cX53_drill 35 = .ok (.iconst 0, 1) := dk_3 (dk_at dksX53_drill_1 11 rfl rfl)
theorem dX53_drill_36 : decode cX53_drill 36 = .ok (.istore 5, 2) := dk_54 5 (dk_at dksX53_drill_1 12 rfl rfl)
theorem dX53_drill_38 : decode cX53_drill 38 = .ok (.iload 5, 2) := dk_21 5 (dk_at dksX53_drill_1 14 rfl rfl)
theorem dX53_drill_40 : decode cX53_drill 40 = .ok (.aload_n 0, 1) := dk_42 (dk_at dksX53_drill_1 16 rfl rfl)
theorem dX53_drill_41 : decode cX53_drill 41 = .ok (.getfield 78, 3) := dk_180 0 78 (dk_at dksX53_drill_1 17 rfl rfl)
theorem dX53_drill_44 : decode cX53_drill 44 = .ok (.if_icmp .ge 103, 3) := dk_162 0 103 (dk_at dksX53_drill_1 20 rfl rfl)
theorem dX53_drill_47 : decode cX53_drill 47 = .ok (.iload 5, 2) := dk_21 5 (dk_at dksX53_drill_2 0 rfl rfl)
theorem dX53_drill_49 : decode cX53_drill 49 = .ok (.iload_n 1, 1) := dk_27 (dk_at dksX53_drill_2 2 rfl rfl)
theorem dX53_drill_50 : decode cX53_drill 50 = .ok (.if_icmp .ne 12, 3) := dk_160 0 12 (dk_at dksX53_drill_2 3 rfl rfl)
theorem dX53_drill_53 : decode cX53_drill 53 = .ok (.iload_n 3, 1) := dk_29 (dk_at dksX53_drill_2 6 rfl rfl)
theorem dX53_drill_54 : decode cX53_drill 54 = .ok (.iload_n 1, 1) := dk_27 (dk_at dksX53_drill_2 7 rfl rfl)
theorem dX53_drill_55 : decode cX53_drill 55 = .ok (.if_icmp .eq 7, 3) := dk_159 0 7 (dk_at dksX53_drill_2 8 rfl rfl)
theorem dX53_drill_58 : decode cX53_drill 58 = .ok (.iconst 1, 1) := dk_4 (dk_at dksX53_drill_2 11 rfl rfl)
theorem dX53_drill_59 : decode cX53_drill 59 = .ok (.goto 4, 3) := dk_167 0 4 (dk_at dksX53_drill_2 12 rfl rfl)
theorem dX53_drill_62 : decode cX53_drill 62 = .ok (.iconst 0, 1) := dk_3 (dk_at dksX53_drill_2 15 rfl rfl)
theorem dX53_drill_63 : decode cX53_drill 63 = .ok (.istore 6, 2) := dk_54 6 (dk_at dksX53_drill_2 16 rfl rfl)
theorem dX53_drill_65 : decode cX53_drill 65 = .ok (.iload_n 3, 1) := dk_29 (dk_at dksX53_drill_2 18 rfl rfl)
theorem dX53_drill_66 : decode cX53_drill 66 = .ok (.iload_n 1, 1) := dk_27 (dk_at dksX53_drill_2 19 rfl rfl)
theorem dX53_drill_67 : decode cX53_drill 67 = .ok (.if_icmp .eq 51, 3) := dk_159 0 51 (dk_at dksX53_drill_2 20 rfl rfl)
theorem dX53_drill_70 : decode cX53_drill 70 = .ok (.iload 5, 2) := dk_21 5 (dk_at dksX53_drill_3 0 rfl rfl)
theorem dX53_drill_72 : decode cX53_drill 72 = .ok (.iload_n 1, 1) := dk_27 (dk_at dksX53_drill_3 2 rfl rfl)
theorem dX53_drill_73 : decode cX53_drill 73 = .ok (.if_icmp .eq 45, 3) := dk_159 0 45 (dk_at dksX53_drill_3 3 rfl rfl)
theorem dX53_drill_76 : decode cX53_drill 76 = .ok (.aload_n 0, 1) := dk_42 (dk_at dksX53_drill_3 6 rfl rfl)
theorem dX53_drill_77 : decode cX53_drill 77 = .ok (.iload_n 1, 1) := dk_27 (dk_at dksX53_drill_3 7 rfl rfl)
theorem dX53_drill_78 : decode cX53_drill 78 = .ok (.iload 5, 2) := dk_21 5 (dk_at dksX53_drill_3 8 rfl rfl)
theorem dX53_drill_80 : decode cX53_drill 80 = .ok (.invokevirtual 104, 3) := dk_182 0 104 (dk_at dksX53_drill_3 10 rfl rfl)
theorem dX53_drill_83 : decode cX53_drill 83 = .ok (.aload_n 0, 1) := dk_42 (dk_at dksX53_drill_3 13 rfl rfl)
theorem dX53_drill_84 : decode cX53_drill 84 = .ok (.iload_n 1, 1) := dk_27 (dk_at dksX53_drill_3 14 rfl rfl)
theorem dX53_drill_85 : decode cX53_drill 85 = .ok (.iload_n 3, 1) := dk_29 (dk_at dksX53_drill_3 15 rfl rfl)
theorem dX53_drill_86 : decode cX53_drill 86 = .ok (.invokevirtual 104, 3) := dk_182 0 104 (dk_at dksX53_drill_3 16 rfl rfl)
theorem dX53_drill_89 : decode cX53_drill 89 = .ok (.if_icmp .lt 25, 3) := dk_161 0 25 (dk_at dksX53_drill_3 19 rfl rfl)
theorem dX53_drill_92 : decode cX53_drill 92 = .ok (.aload_n 0, 1) := dk_42 (dk_at dksX53_drill_3 22 rfl rfl)
theorem dX53_drill_93 : decode cX53_drill 93 = .ok (.iload_n 1, 1) := dk_27 (dk_at dksX53_drill_3 23 rfl rfl)
theorem dX53_drill_94 : decode cX53_drill 94 = .ok (.iload 5, 2) := dk_21 5 (dk_at dksX53_drill_4 0 rfl rfl)
theorem dX53_drill_96 : decode cX53_drill 96 = .ok (.invokevirtual 104, 3) := dk_182 0 104 (dk_at dksX53_drill_4 2 rfl rfl)
theorem dX53_drill_99 : decode cX53_drill 99 = .ok (.aload_n 0, 1) := dk_42 (dk_at dksX53_drill_4 5 rfl rfl)
theorem dX53_drill_100 : decode cX53_drill 100 = .ok (.iload_n 1, 1) := dk_27 (dk_at dksX53_drill_4 6 rfl rfl)
theorem dX53_drill_101 : decode cX53_drill 101 = .ok (.iload_n 3, 1) := dk_29 (dk_at dksX53_drill_4 7 rfl rfl)
theorem dX53_drill_102 : decode cX53_drill 102 = .ok (.invokevirtual 104, 3) := dk_182 0 104 (dk_at dksX53_drill_4 8 rfl rfl)
theorem dX53_drill_105 : decode cX53_drill 105 = .ok (.if_icmp .ne 13, 3) := dk_160 0 13 (dk_at dksX53_drill_4 11 rfl rfl)
theorem dX53_drill_108 : decode cX53_drill 108 = .ok (.iload 5, 2) := dk_21 5 (dk_at dksX53_drill_4 14 rfl rfl)
theorem dX53_drill_110 : decode cX53_drill 110 = .ok (.iload_n 3, 1) := dk_29 (dk_at dksX53_drill_4 16 rfl rfl)
theorem dX53_drill_111 : decode cX53_drill 111 = .ok (.if_icmp .ge 7, 3) := dk_162 0 7 (dk_at dksX53_drill_4 17 rfl rfl)
theorem dX53_drill_114 : decode cX53_drill 114 = .ok (.iconst 1, 1) := dk_4 (dk_at dksX53_drill_4 20 rfl rfl)
theorem dX53_drill_115 : decode cX53_drill 115 = .ok (.goto 4, 3) := dk_167 0 4 (dk_at dksX53_drill_4 21 rfl rfl)
theorem dX53_drill_118 : decode cX53_drill 118 = .ok (.iconst 0, 1) := dk_3 (dk_at dksX53_drill_5 0 rfl rfl)
theorem dX53_drill_119 : decode cX53_drill 119 = .ok (.istore 7, 2) := dk_54 7 (dk_at dksX53_drill_5 1 rfl rfl)
theorem dX53_drill_121 : decode cX53_drill 121 = .ok (.iload 4, 2) := dk_21 4 (dk_at dksX53_drill_5 3 rfl rfl)
theorem dX53_drill_123 : decode cX53_drill 123 = .ok (.iload 6, 2) := dk_21 6 (dk_at dksX53_drill_5 5 rfl rfl)
theorem dX53_drill_125 : decode cX53_drill 125 = .ok (.ifCond .ne 8, 3) := dk_154 0 8 (dk_at dksX53_drill_5 7 rfl rfl)
theorem dX53_drill_128 : decode cX53_drill 128 = .ok (.iload 7, 2) := dk_21 7 (dk_at dksX53_drill_5 10 rfl rfl)
theorem dX53_drill_130 : decode cX53_drill 130 = .ok (.ifCond .eq 7, 3) := dk_153 0 7 (dk_at dksX53_drill_5 12 rfl rfl)
theorem dX53_drill_133 : decode cX53_drill 133 = .ok (.iconst 1, 1) := dk_4 (dk_at dksX53_drill_5 15 rfl rfl)
theorem dX53_drill_134 : decode cX53_drill 134 = .ok (.goto 4, 3) := dk_167 0 4 (dk_at dksX53_drill_5 16 rfl rfl)
theorem dX53_drill_137 : decode cX53_drill 137 = .ok (.iconst 0, 1) := dk_3 (dk_at dksX53_drill_5 19 rfl rfl)
theorem dX53_drill_138 : decode cX53_drill 138 = .ok (.iadd, 1) := dk_96 (dk_at dksX53_drill_5 20 rfl rfl)
theorem dX53_drill_139 : decode cX53_drill 139 = .ok (.istore 4, 2) := dk_54 4 (dk_at dksX53_drill_5 21 rfl rfl)
theorem dX53_drill_141 : decode cX53_drill 141 = .ok (.iinc 5 1, 3) := dk_132 5 1 (dk_at dksX53_drill_6 0 rfl rfl)
theorem dX53_drill_144 : decode cX53_drill 144 = .ok (.goto (-106), 3) := dk_167 255 150 (dk_at dksX53_drill_6 3 rfl rfl)
theorem dX53_drill_147 : decode cX53_drill 147 = .ok (.iload 4, 2) := dk_21 4 (dk_at dksX53_drill_6 6 rfl rfl)
theorem dX53_drill_149 : decode cX53_drill 149 = .ok (.iload_n 2, 1) := dk_28 (dk_at dksX53_drill_6 8 rfl rfl)
theorem dX53_drill_150 : decode cX53_drill 150 = .ok (.if_icmp .ne 5, 3) := dk_160 0 5 (dk_at dksX53_drill_6 9 rfl rfl)
theorem dX53_drill_153 : decode cX53_drill 153 = .ok (.iload_n 3, 1) := dk_29 (dk_at dksX53_drill_6 12 rfl rfl)
theorem dX53_drill_154 : decode cX53_drill 154 = .ok (.ireturn, 1) := dk_172 (dk_at dksX53_drill_6 13 rfl rfl)
theorem dX53_drill_155 : decode cX53_drill 155 = .ok (.iinc 3 1, 3) := dk_132 3 1 (dk_at dksX53_drill_6 14 rfl rfl)
theorem dX53_drill_158 : decode cX53_drill 158 = .ok (.goto (-134), 3) := dk_167 255 122 (dk_at dksX53_drill_6 17 rfl rfl)
theorem dX53_drill_161 : decode cX53_drill 161 = .ok (.iconst (-1), 1) := dk_2 (dk_at dksX53_drill_6 20 rfl rfl)
theorem dX53_drill_162 : decode cX53_drill 162 = .ok (.ireturn, 1) := dk_172 (dk_at dksX53_drill_6 21 rfl rfl)
abbrev cX53_inspect : ByteArray := prog_58_method_40_code
def yX53_inspect : MethodName := ⟨RX53, "inspect", "(IJ)I"⟩
def dkwX53_inspect_2 : List UInt8 := [79, 21, 4, 156, 0, 7, 3, 167, 0, 8, 32, 136, 21, 4, 100, 172]
abbrev dktX53_inspect_2 : List UInt8 := dkwX53_inspect_2 ++ []
def dkwX53_inspect_1 : List UInt8 := [27, 46, 133, 148, 156, 0, 5, 2, 172, 42, 180, 0, 51, 27, 46, 54, 4, 42, 180, 0, 51, 27, 32, 136]
abbrev dktX53_inspect_1 : List UInt8 := dkwX53_inspect_1 ++ dktX53_inspect_2
def dkwX53_inspect_0 : List UInt8 := [42, 27, 182, 0, 128, 153, 0, 26, 32, 9, 20, 0, 102, 184, 0, 90, 153, 0, 15, 32, 42, 180, 0, 51]
abbrev dktX53_inspect_0 : List UInt8 := dkwX53_inspect_0 ++ dktX53_inspect_1
theorem dksX53_inspect_0 : cX53_inspect.data.toList.drop 0 = dktX53_inspect_0 := by decide +kernel
theorem dksX53_inspect_1 : cX53_inspect.data.toList.drop 24 = dktX53_inspect_1 := dk_seg dksX53_inspect_0 24 rfl rfl
theorem dksX53_inspect_2 : cX53_inspect.data.toList.drop 48 = dktX53_inspect_2 := dk_seg dksX53_inspect_1 24 rfl rfl
theorem dX53_inspect_0 : decode cX53_inspect 0 = .ok (.aload_n 0, 1) := dk_42 (dk_at dksX53_inspect_0 0 rfl rfl)
theorem dX53_inspect_1 : decode cX53_inspect 1 = .ok (.iload_n 1, 1) := dk_27 (dk_at dksX53_inspect_0 1 rfl rfl)
theorem dX53_inspect_2 : decode cX53_inspect 2 = .ok (.invokevirtual 128, 3) := dk_182 0 128 (dk_at dksX53_inspect_0 2 rfl rfl)
theorem dX53_inspect_5 : decode cX53_inspect 5 = .ok (.ifCond .eq 26, 3) := dk_153 0 26 (dk_at dksX53_inspect_0 5 rfl rfl)
theorem dX53_inspect_8 : decode cX53_inspect 8 = .ok (.lload_n 2, 1) := dk_32 (dk_at dksX53_inspect_0 8 rfl rfl)
theorem dX53_inspect_9 : decode cX53_inspect 9 = .ok (.lconst 0, 1) := dk_9 (dk_at dksX53_inspect_0 9 rfl rfl)
theorem dX53_inspect_10 : decode cX53_inspect 10 = .ok (.ldc2_w 102, 3) := dk_20 0 102 (dk_at dksX53_inspect_0 10 rfl rfl)
theorem dX53_inspect_13 : decode cX53_inspect 13 = .ok (.invokestatic 90, 3) := dk_184 0 90 (dk_at dksX53_inspect_0 13 rfl rfl)
theorem dX53_inspect_16 : decode cX53_inspect 16 = .ok (.ifCond .eq 15, 3) := dk_153 0 15 (dk_at dksX53_inspect_0 16 rfl rfl)
theorem dX53_inspect_19 : decode cX53_inspect 19 = .ok (.lload_n 2, 1) := dk_32 (dk_at dksX53_inspect_0 19 rfl rfl)
theorem dX53_inspect_20 : decode cX53_inspect 20 = .ok (.aload_n 0, 1) := dk_42 (dk_at dksX53_inspect_0 20 rfl rfl)
theorem dX53_inspect_21 : decode cX53_inspect 21 = .ok (.getfield 51, 3) := dk_180 0 51 (dk_at dksX53_inspect_0 21 rfl rfl)
theorem dX53_inspect_24 : decode cX53_inspect 24 = .ok (.iload_n 1, 1) := dk_27 (dk_at dksX53_inspect_1 0 rfl rfl)
theorem dX53_inspect_25 : decode cX53_inspect 25 = .ok (.iaload, 1) := dk_46 (dk_at dksX53_inspect_1 1 rfl rfl)
theorem dX53_inspect_26 : decode cX53_inspect 26 = .ok (.i2l, 1) := dk_133 (dk_at dksX53_inspect_1 2 rfl rfl)
theorem dX53_inspect_27 : decode cX53_inspect 27 = .ok (.lcmp, 1) := dk_148 (dk_at dksX53_inspect_1 3 rfl rfl)
theorem dX53_inspect_28 : decode cX53_inspect 28 = .ok (.ifCond .ge 5, 3) := dk_156 0 5 (dk_at dksX53_inspect_1 4 rfl rfl)
theorem dX53_inspect_31 : decode cX53_inspect 31 = .ok (.iconst (-1), 1) := dk_2 (dk_at dksX53_inspect_1 7 rfl rfl)
theorem dX53_inspect_32 : decode cX53_inspect 32 = .ok (.ireturn, 1) := dk_172 (dk_at dksX53_inspect_1 8 rfl rfl)
theorem dX53_inspect_33 : decode cX53_inspect 33 = .ok (.aload_n 0, 1) := dk_42 (dk_at dksX53_inspect_1 9 rfl rfl)
theorem dX53_inspect_34 : decode cX53_inspect 34 = .ok (.getfield 51, 3) := dk_180 0 51 (dk_at dksX53_inspect_1 10 rfl rfl)
theorem dX53_inspect_37 : decode cX53_inspect 37 = .ok (.iload_n 1, 1) := dk_27 (dk_at dksX53_inspect_1 13 rfl rfl)
theorem dX53_inspect_38 : decode cX53_inspect 38 = .ok (.iaload, 1) := dk_46 (dk_at dksX53_inspect_1 14 rfl rfl)
theorem dX53_inspect_39 : decode cX53_inspect 39 = .ok (.istore 4, 2) := dk_54 4 (dk_at dksX53_inspect_1 15 rfl rfl)
theorem dX53_inspect_41 : decode cX53_inspect 41 = .ok (.aload_n 0, 1) := dk_42 (dk_at dksX53_inspect_1 17 rfl rfl)
theorem dX53_inspect_42 : decode cX53_inspect 42 = .ok (.getfield 51, 3) := dk_180 0 51 (dk_at dksX53_inspect_1 18 rfl rfl)
theorem dX53_inspect_45 : decode cX53_inspect 45 = .ok (.iload_n 1, 1) := dk_27 (dk_at dksX53_inspect_1 21 rfl rfl)
theorem dX53_inspect_46 : decode cX53_inspect 46 = .ok (.lload_n 2, 1) := dk_32 (dk_at dksX53_inspect_1 22 rfl rfl)
theorem dX53_inspect_47 : decode cX53_inspect 47 = .ok (.l2i, 1) := dk_136 (dk_at dksX53_inspect_1 23 rfl rfl)
theorem dX53_inspect_48 : decode cX53_inspect 48 = .ok (.iastore, 1) := dk_79 (dk_at dksX53_inspect_2 0 rfl rfl)
theorem dX53_inspect_49 : decode cX53_inspect 49 = .ok (.iload 4, 2) := dk_21 4 (dk_at dksX53_inspect_2 1 rfl rfl)
theorem dX53_inspect_51 : decode cX53_inspect 51 = .ok (.ifCond .ge 7, 3) := dk_156 0 7 (dk_at dksX53_inspect_2 3 rfl rfl)
theorem dX53_inspect_54 : decode cX53_inspect 54 = .ok (.iconst 0, 1) := dk_3 (dk_at dksX53_inspect_2 6 rfl rfl)
theorem dX53_inspect_55 : decode cX53_inspect 55 = .ok (.goto 8, 3) := dk_167 0 8 (dk_at dksX53_inspect_2 7 rfl rfl)
theorem dX53_inspect_58 : decode cX53_inspect 58 = .ok (.lload_n 2, 1) := dk_32 (dk_at dksX53_inspect_2 10 rfl rfl)
theorem dX53_inspect_59 : decode cX53_inspect 59 = .ok (.l2i, 1) := dk_136 (dk_at dksX53_inspect_2 11 rfl rfl)
theorem dX53_inspect_60 : decode cX53_inspect 60 = .ok (.iload 4, 2) := dk_21 4 (dk_at dksX53_inspect_2 12 rfl rfl)
theorem dX53_inspect_62 : decode cX53_inspect 62 = .ok (.isub, 1) := dk_100 (dk_at dksX53_inspect_2 14 rfl rfl)
theorem dX53_inspect_63 : decode cX53_inspect 63 = .ok (.ireturn, 1) := dk_172 (dk_at dksX53_inspect_2 15 rfl rfl)
theorem q459 : (Jvm.Cond.initialized "WasteHouseModel$BarredStoresModel") ∈ lw_all := lw_g (lw_at lw_m1 67 rfl) rfl
theorem q2026 : (Jvm.Cond.selects "WasteHouseModel$BarredStoresModel" ({ cls := "java/lang/Object", name := "getClass", desc := "()Ljava/lang/Class;" } : Jvm.MethodName) ({ cls := "java/lang/Object", name := "getClass", desc := "()Ljava/lang/Class;" } : Jvm.MethodName)) ∈ lw_all := lw_g (lw_at lw_m7 194 rfl) rfl
theorem q3136 : (Jvm.Cond.selects "WasteHouseModel$BarredStoresModel" ({ cls := "java/lang/Object", name := "equals", desc := "(Ljava/lang/Object;)Z" } : Jvm.MethodName) ({ cls := "java/lang/Object", name := "equals", desc := "(Ljava/lang/Object;)Z" } : Jvm.MethodName)) ∈ lw_all := lw_g (lw_at lw_m12 104 rfl) rfl
theorem q3654 : (Jvm.Cond.selects "WasteHouseModel$BarredStoresModel" ({ cls := "java/lang/Object", name := "hashCode", desc := "()I" } : Jvm.MethodName) ({ cls := "java/lang/Object", name := "hashCode", desc := "()I" } : Jvm.MethodName)) ∈ lw_all := lw_g (lw_at lw_m14 142 rfl) rfl
theorem q7073 : (Jvm.Cond.instantiable "WasteHouseModel$BarredStoresModel" (25 : Nat)) ∈ lw_all := lw_g (lw_at lw_m28 201 rfl) rfl
theorem q7075 : (Jvm.Cond.instanceMethod ({ cls := "WasteHouseModel$BarredStoresModel", name := "<init>", desc := "()V" } : Jvm.MethodName)) ∈ lw_all := lw_g (lw_at lw_m28 203 rfl) rfl
theorem q7076 : (Jvm.Cond.code ({ cls := "WasteHouseModel$BarredStoresModel", name := "<init>", desc := "()V" } : Jvm.MethodName) prog_58_method_1_code (2 : Nat) (Option.none : Option Jvm.ClassFile.FieldType)) ∈ lw_all := lw_g (lw_at lw_m28 204 rfl) rfl
theorem q7077 : (Jvm.Cond.methodLink "WasteHouseModel$BarredStoresModel" (1 : Nat) ({ cls := "java/lang/Object", name := "<init>", desc := "()V" } : Jvm.MethodName)) ∈ lw_all := lw_g (lw_at lw_m28 205 rfl) rfl
theorem q7078 : (Jvm.Cond.constantLong "WasteHouseModel$BarredStoresModel" (76 : Nat) (1000000000 : Int64)) ∈ lw_all := lw_g (lw_at lw_m28 206 rfl) rfl
theorem q7079 : (Jvm.Cond.fieldLink "WasteHouseModel$BarredStoresModel" (78 : Nat) "WasteHouseModel$BarredStoresModel" "places" "I") ∈ lw_all := lw_g (lw_at lw_m28 207 rfl) rfl
theorem q7080 : (Jvm.Cond.fieldLink "WasteHouseModel$BarredStoresModel" (7 : Nat) "WasteHouseModel$BarredStoresModel" "xs" "[I") ∈ lw_all := lw_g (lw_at lw_m28 208 rfl) rfl
theorem q7081 : (Jvm.Cond.fieldLink "WasteHouseModel$BarredStoresModel" (13 : Nat) "WasteHouseModel$BarredStoresModel" "ys" "[I") ∈ lw_all := lw_g (lw_at lw_m28 209 rfl) rfl
theorem q7082 : (Jvm.Cond.fieldLink "WasteHouseModel$BarredStoresModel" (16 : Nat) "WasteHouseModel$BarredStoresModel" "basins" "[I") ∈ lw_all := lw_g (lw_at lw_m28 210 rfl) rfl
theorem q7083 : (Jvm.Cond.fieldLink "WasteHouseModel$BarredStoresModel" (81 : Nat) "WasteHouseModel$BarredStoresModel" "loads" "I") ∈ lw_all := lw_g (lw_at lw_m28 211 rfl) rfl
theorem q7084 : (Jvm.Cond.fieldLink "WasteHouseModel$BarredStoresModel" (19 : Nat) "WasteHouseModel$BarredStoresModel" "classes" "[I") ∈ lw_all := lw_g (lw_at lw_m28 212 rfl) rfl
theorem q7085 : (Jvm.Cond.fieldLink "WasteHouseModel$BarredStoresModel" (22 : Nat) "WasteHouseModel$BarredStoresModel" "grams" "[J") ∈ lw_all := lw_g (lw_at lw_m28 213 rfl) rfl
theorem q7086 : (Jvm.Cond.fieldLink "WasteHouseModel$BarredStoresModel" (26 : Nat) "WasteHouseModel$BarredStoresModel" "litres" "[J") ∈ lw_all := lw_g (lw_at lw_m28 214 rfl) rfl
theorem q7087 : (Jvm.Cond.fieldLink "WasteHouseModel$BarredStoresModel" (29 : Nat) "WasteHouseModel$BarredStoresModel" "gone" "[Z") ∈ lw_all := lw_g (lw_at lw_m28 215 rfl) rfl
theorem q7088 : (Jvm.Cond.fieldLink "WasteHouseModel$BarredStoresModel" (33 : Nat) "WasteHouseModel$BarredStoresModel" "at" "[I") ∈ lw_all := lw_g (lw_at lw_m28 216 rfl) rfl
theorem q7089 : (Jvm.Cond.fieldLink "WasteHouseModel$BarredStoresModel" (36 : Nat) "WasteHouseModel$BarredStoresModel" "came" "[I") ∈ lw_all := lw_g (lw_at lw_m28 217 rfl) rfl
theorem q7090 : (Jvm.Cond.fieldLink "WasteHouseModel$BarredStoresModel" (133 : Nat) "WasteHouseModel$BarredStoresModel" "clock" "I") ∈ lw_all := lw_g (lw_at lw_m28 218 rfl) rfl
theorem q7091 : (Jvm.Cond.fieldLink "WasteHouseModel$BarredStoresModel" (39 : Nat) "WasteHouseModel$BarredStoresModel" "apart" "[I") ∈ lw_all := lw_g (lw_at lw_m28 219 rfl) rfl
theorem q7092 : (Jvm.Cond.fieldLink "WasteHouseModel$BarredStoresModel" (42 : Nat) "WasteHouseModel$BarredStoresModel" "mosts" "[J") ∈ lw_all := lw_g (lw_at lw_m28 220 rfl) rfl
theorem q7093 : (Jvm.Cond.fieldLink "WasteHouseModel$BarredStoresModel" (45 : Nat) "WasteHouseModel$BarredStoresModel" "trials" "[I") ∈ lw_all := lw_g (lw_at lw_m28 221 rfl) rfl
theorem q7094 : (Jvm.Cond.fieldLink "WasteHouseModel$BarredStoresModel" (48 : Nat) "WasteHouseModel$BarredStoresModel" "keys" "[Z") ∈ lw_all := lw_g (lw_at lw_m28 222 rfl) rfl
theorem q7095 : (Jvm.Cond.fieldLink "WasteHouseModel$BarredStoresModel" (51 : Nat) "WasteHouseModel$BarredStoresModel" "inspected" "[I") ∈ lw_all := lw_g (lw_at lw_m28 223 rfl) rfl
theorem q7096 : (Jvm.Cond.fieldLink "WasteHouseModel$BarredStoresModel" (54 : Nat) "WasteHouseModel$BarredStoresModel" "good" "[Z") ∈ lw_all := lw_g (lw_at lw_m28 224 rfl) rfl
theorem q7097 : (Jvm.Cond.fieldLink "WasteHouseModel$BarredStoresModel" (57 : Nat) "WasteHouseModel$BarredStoresModel" "distance" "[I") ∈ lw_all := lw_g (lw_at lw_m28 225 rfl) rfl
theorem q7098 : (Jvm.Cond.fieldLink "WasteHouseModel$BarredStoresModel" (60 : Nat) "WasteHouseModel$BarredStoresModel" "trial" "[I") ∈ lw_all := lw_g (lw_at lw_m28 226 rfl) rfl
theorem q7099 : (Jvm.Cond.fieldLink "WasteHouseModel$BarredStoresModel" (63 : Nat) "WasteHouseModel$BarredStoresModel" "stepLoad" "[I") ∈ lw_all := lw_g (lw_at lw_m28 227 rfl) rfl
theorem q7100 : (Jvm.Cond.fieldLink "WasteHouseModel$BarredStoresModel" (66 : Nat) "WasteHouseModel$BarredStoresModel" "stepPlace" "[I") ∈ lw_all := lw_g (lw_at lw_m28 228 rfl) rfl
theorem q7101 : (Jvm.Cond.fieldLink "WasteHouseModel$BarredStoresModel" (69 : Nat) "WasteHouseModel$BarredStoresModel" "steps" "I") ∈ lw_all := lw_g (lw_at lw_m28 229 rfl) rfl
theorem q7102 : (Jvm.Cond.fieldLink "WasteHouseModel$BarredStoresModel" (73 : Nat) "WasteHouseModel$BarredStoresModel" "powers" "[I") ∈ lw_all := lw_g (lw_at lw_m28 230 rfl) rfl
theorem q7103 : (Jvm.Cond.lays "WasteHouseModel$BarredStoresModel" "WasteHouseModel$BarredStoresModel" "places" "I") ∈ lw_all := lw_g (lw_at lw_m28 231 rfl) rfl
theorem q7104 : (Jvm.Cond.soleField "WasteHouseModel$BarredStoresModel" "places") ∈ lw_all := lw_g (lw_at lw_m28 232 rfl) rfl
theorem q7105 : (Jvm.Cond.laysFinal "WasteHouseModel$BarredStoresModel" "WasteHouseModel$BarredStoresModel" "xs" "[I") ∈ lw_all := lw_g (lw_at lw_m28 233 rfl) rfl
theorem q7106 : (Jvm.Cond.soleField "WasteHouseModel$BarredStoresModel" "xs") ∈ lw_all := lw_g (lw_at lw_m28 234 rfl) rfl
theorem q7107 : (Jvm.Cond.laysFinal "WasteHouseModel$BarredStoresModel" "WasteHouseModel$BarredStoresModel" "ys" "[I") ∈ lw_all := lw_g (lw_at lw_m28 235 rfl) rfl
theorem q7108 : (Jvm.Cond.soleField "WasteHouseModel$BarredStoresModel" "ys") ∈ lw_all := lw_g (lw_at lw_m28 236 rfl) rfl
theorem q7109 : (Jvm.Cond.laysFinal "WasteHouseModel$BarredStoresModel" "WasteHouseModel$BarredStoresModel" "basins" "[I") ∈ lw_all := lw_g (lw_at lw_m28 237 rfl) rfl
theorem q7110 : (Jvm.Cond.soleField "WasteHouseModel$BarredStoresModel" "basins") ∈ lw_all := lw_g (lw_at lw_m28 238 rfl) rfl
theorem q7111 : (Jvm.Cond.lays "WasteHouseModel$BarredStoresModel" "WasteHouseModel$BarredStoresModel" "loads" "I") ∈ lw_all := lw_g (lw_at lw_m28 239 rfl) rfl
theorem q7112 : (Jvm.Cond.soleField "WasteHouseModel$BarredStoresModel" "loads") ∈ lw_all := lw_g (lw_at lw_m29 0 rfl) rfl
theorem q7113 : (Jvm.Cond.laysFinal "WasteHouseModel$BarredStoresModel" "WasteHouseModel$BarredStoresModel" "classes" "[I") ∈ lw_all := lw_g (lw_at lw_m29 1 rfl) rfl
theorem q7114 : (Jvm.Cond.soleField "WasteHouseModel$BarredStoresModel" "classes") ∈ lw_all := lw_g (lw_at lw_m29 2 rfl) rfl
theorem q7115 : (Jvm.Cond.laysFinal "WasteHouseModel$BarredStoresModel" "WasteHouseModel$BarredStoresModel" "grams" "[J") ∈ lw_all := lw_g (lw_at lw_m29 3 rfl) rfl
theorem q7116 : (Jvm.Cond.soleField "WasteHouseModel$BarredStoresModel" "grams") ∈ lw_all := lw_g (lw_at lw_m29 4 rfl) rfl
theorem q7117 : (Jvm.Cond.laysFinal "WasteHouseModel$BarredStoresModel" "WasteHouseModel$BarredStoresModel" "litres" "[J") ∈ lw_all := lw_g (lw_at lw_m29 5 rfl) rfl
theorem q7118 : (Jvm.Cond.soleField "WasteHouseModel$BarredStoresModel" "litres") ∈ lw_all := lw_g (lw_at lw_m29 6 rfl) rfl
theorem q7119 : (Jvm.Cond.laysFinal "WasteHouseModel$BarredStoresModel" "WasteHouseModel$BarredStoresModel" "gone" "[Z") ∈ lw_all := lw_g (lw_at lw_m29 7 rfl) rfl
theorem q7120 : (Jvm.Cond.soleField "WasteHouseModel$BarredStoresModel" "gone") ∈ lw_all := lw_g (lw_at lw_m29 8 rfl) rfl
theorem q7121 : (Jvm.Cond.laysFinal "WasteHouseModel$BarredStoresModel" "WasteHouseModel$BarredStoresModel" "at" "[I") ∈ lw_all := lw_g (lw_at lw_m29 9 rfl) rfl
theorem q7122 : (Jvm.Cond.soleField "WasteHouseModel$BarredStoresModel" "at") ∈ lw_all := lw_g (lw_at lw_m29 10 rfl) rfl
theorem q7123 : (Jvm.Cond.laysFinal "WasteHouseModel$BarredStoresModel" "WasteHouseModel$BarredStoresModel" "came" "[I") ∈ lw_all := lw_g (lw_at lw_m29 11 rfl) rfl
theorem q7124 : (Jvm.Cond.soleField "WasteHouseModel$BarredStoresModel" "came") ∈ lw_all := lw_g (lw_at lw_m29 12 rfl) rfl
theorem q7125 : (Jvm.Cond.lays "WasteHouseModel$BarredStoresModel" "WasteHouseModel$BarredStoresModel" "clock" "I") ∈ lw_all := lw_g (lw_at lw_m29 13 rfl) rfl
theorem q7126 : (Jvm.Cond.soleField "WasteHouseModel$BarredStoresModel" "clock") ∈ lw_all := lw_g (lw_at lw_m29 14 rfl) rfl
theorem q7127 : (Jvm.Cond.laysFinal "WasteHouseModel$BarredStoresModel" "WasteHouseModel$BarredStoresModel" "apart" "[I") ∈ lw_all := lw_g (lw_at lw_m29 15 rfl) rfl
theorem q7128 : (Jvm.Cond.soleField "WasteHouseModel$BarredStoresModel" "apart") ∈ lw_all := lw_g (lw_at lw_m29 16 rfl) rfl
theorem q7129 : (Jvm.Cond.laysFinal "WasteHouseModel$BarredStoresModel" "WasteHouseModel$BarredStoresModel" "mosts" "[J") ∈ lw_all := lw_g (lw_at lw_m29 17 rfl) rfl
theorem q7130 : (Jvm.Cond.soleField "WasteHouseModel$BarredStoresModel" "mosts") ∈ lw_all := lw_g (lw_at lw_m29 18 rfl) rfl
theorem q7131 : (Jvm.Cond.laysFinal "WasteHouseModel$BarredStoresModel" "WasteHouseModel$BarredStoresModel" "trials" "[I") ∈ lw_all := lw_g (lw_at lw_m29 19 rfl) rfl
theorem q7132 : (Jvm.Cond.soleField "WasteHouseModel$BarredStoresModel" "trials") ∈ lw_all := lw_g (lw_at lw_m29 20 rfl) rfl
theorem q7133 : (Jvm.Cond.laysFinal "WasteHouseModel$BarredStoresModel" "WasteHouseModel$BarredStoresModel" "keys" "[Z") ∈ lw_all := lw_g (lw_at lw_m29 21 rfl) rfl
theorem q7134 : (Jvm.Cond.soleField "WasteHouseModel$BarredStoresModel" "keys") ∈ lw_all := lw_g (lw_at lw_m29 22 rfl) rfl
theorem q7135 : (Jvm.Cond.laysFinal "WasteHouseModel$BarredStoresModel" "WasteHouseModel$BarredStoresModel" "inspected" "[I") ∈ lw_all := lw_g (lw_at lw_m29 23 rfl) rfl
theorem q7136 : (Jvm.Cond.soleField "WasteHouseModel$BarredStoresModel" "inspected") ∈ lw_all := lw_g (lw_at lw_m29 24 rfl) rfl
theorem q7137 : (Jvm.Cond.lays "WasteHouseModel$BarredStoresModel" "WasteHouseModel$BarredStoresModel" "left" "D") ∈ lw_all := lw_g (lw_at lw_m29 25 rfl) rfl
theorem q7138 : (Jvm.Cond.soleField "WasteHouseModel$BarredStoresModel" "left") ∈ lw_all := lw_g (lw_at lw_m29 26 rfl) rfl
theorem q7139 : (Jvm.Cond.laysFinal "WasteHouseModel$BarredStoresModel" "WasteHouseModel$BarredStoresModel" "good" "[Z") ∈ lw_all := lw_g (lw_at lw_m29 27 rfl) rfl
theorem q7140 : (Jvm.Cond.soleField "WasteHouseModel$BarredStoresModel" "good") ∈ lw_all := lw_g (lw_at lw_m29 28 rfl) rfl
theorem q7141 : (Jvm.Cond.laysFinal "WasteHouseModel$BarredStoresModel" "WasteHouseModel$BarredStoresModel" "distance" "[I") ∈ lw_all := lw_g (lw_at lw_m29 29 rfl) rfl
theorem q7142 : (Jvm.Cond.soleField "WasteHouseModel$BarredStoresModel" "distance") ∈ lw_all := lw_g (lw_at lw_m29 30 rfl) rfl
theorem q7143 : (Jvm.Cond.laysFinal "WasteHouseModel$BarredStoresModel" "WasteHouseModel$BarredStoresModel" "trial" "[I") ∈ lw_all := lw_g (lw_at lw_m29 31 rfl) rfl
theorem q7144 : (Jvm.Cond.soleField "WasteHouseModel$BarredStoresModel" "trial") ∈ lw_all := lw_g (lw_at lw_m29 32 rfl) rfl
theorem q7145 : (Jvm.Cond.laysFinal "WasteHouseModel$BarredStoresModel" "WasteHouseModel$BarredStoresModel" "stepLoad" "[I") ∈ lw_all := lw_g (lw_at lw_m29 33 rfl) rfl
theorem q7146 : (Jvm.Cond.soleField "WasteHouseModel$BarredStoresModel" "stepLoad") ∈ lw_all := lw_g (lw_at lw_m29 34 rfl) rfl
theorem q7147 : (Jvm.Cond.laysFinal "WasteHouseModel$BarredStoresModel" "WasteHouseModel$BarredStoresModel" "stepPlace" "[I") ∈ lw_all := lw_g (lw_at lw_m29 35 rfl) rfl
theorem q7148 : (Jvm.Cond.soleField "WasteHouseModel$BarredStoresModel" "stepPlace") ∈ lw_all := lw_g (lw_at lw_m29 36 rfl) rfl
theorem q7149 : (Jvm.Cond.lays "WasteHouseModel$BarredStoresModel" "WasteHouseModel$BarredStoresModel" "steps" "I") ∈ lw_all := lw_g (lw_at lw_m29 37 rfl) rfl
theorem q7150 : (Jvm.Cond.soleField "WasteHouseModel$BarredStoresModel" "steps") ∈ lw_all := lw_g (lw_at lw_m29 38 rfl) rfl
theorem q7151 : (Jvm.Cond.laysFinal "WasteHouseModel$BarredStoresModel" "WasteHouseModel$BarredStoresModel" "powers" "[I") ∈ lw_all := lw_g (lw_at lw_m29 39 rfl) rfl
theorem q7152 : (Jvm.Cond.soleField "WasteHouseModel$BarredStoresModel" "powers") ∈ lw_all := lw_g (lw_at lw_m29 40 rfl) rfl
theorem q7153 : (Jvm.Cond.superclass "WasteHouseModel$BarredStoresModel" "java/lang/Object") ∈ lw_all := lw_g (lw_at lw_m29 41 rfl) rfl
theorem q8079 : (Jvm.Cond.instanceMethod ({ cls := "WasteHouseModel$BarredStoresModel", name := "load", desc := "(IJJ)I" } : Jvm.MethodName)) ∈ lw_all := lw_g (lw_at lw_m33 7 rfl) rfl
theorem q8080 : (Jvm.Cond.selects "WasteHouseModel$BarredStoresModel" ({ cls := "WasteHouseModel$BarredStoresModel", name := "load", desc := "(IJJ)I" } : Jvm.MethodName) ({ cls := "WasteHouseModel$BarredStoresModel", name := "load", desc := "(IJJ)I" } : Jvm.MethodName)) ∈ lw_all := lw_g (lw_at lw_m33 8 rfl) rfl
theorem q8081 : (Jvm.Cond.code ({ cls := "WasteHouseModel$BarredStoresModel", name := "load", desc := "(IJJ)I" } : Jvm.MethodName) prog_58_method_10_code (6 : Nat) (Option.some Jvm.ClassFile.FieldType.int)) ∈ lw_all := lw_g (lw_at lw_m33 9 rfl) rfl
theorem q8082 : (Jvm.Cond.methodLink "WasteHouseModel$BarredStoresModel" (84 : Nat) ({ cls := "WasteHouseModel$BarredStoresModel", name := "isClass", desc := "(I)Z" } : Jvm.MethodName)) ∈ lw_all := lw_g (lw_at lw_m33 10 rfl) rfl
theorem q8083 : (Jvm.Cond.static ({ cls := "WasteHouseModel$BarredStoresModel", name := "isClass", desc := "(I)Z" } : Jvm.MethodName)) ∈ lw_all := lw_g (lw_at lw_m33 11 rfl) rfl
theorem q8084 : (Jvm.Cond.code ({ cls := "WasteHouseModel$BarredStoresModel", name := "isClass", desc := "(I)Z" } : Jvm.MethodName) prog_58_method_4_code (1 : Nat) (Option.some Jvm.ClassFile.FieldType.boolean)) ∈ lw_all := lw_g (lw_at lw_m33 12 rfl) rfl
theorem q8085 : (Jvm.Cond.constantLong "WasteHouseModel$BarredStoresModel" (100 : Nat) (100000000 : Int64)) ∈ lw_all := lw_g (lw_at lw_m33 13 rfl) rfl
theorem q8086 : (Jvm.Cond.methodLink "WasteHouseModel$BarredStoresModel" (90 : Nat) ({ cls := "WasteHouseModel$BarredStoresModel", name := "isIn", desc := "(JJJ)Z" } : Jvm.MethodName)) ∈ lw_all := lw_g (lw_at lw_m33 14 rfl) rfl
theorem q8087 : (Jvm.Cond.static ({ cls := "WasteHouseModel$BarredStoresModel", name := "isIn", desc := "(JJJ)Z" } : Jvm.MethodName)) ∈ lw_all := lw_g (lw_at lw_m33 15 rfl) rfl
theorem q8088 : (Jvm.Cond.code ({ cls := "WasteHouseModel$BarredStoresModel", name := "isIn", desc := "(JJJ)Z" } : Jvm.MethodName) prog_58_method_3_code (6 : Nat) (Option.some Jvm.ClassFile.FieldType.boolean)) ∈ lw_all := lw_g (lw_at lw_m33 16 rfl) rfl
theorem q8089 : (Jvm.Cond.constantLong "WasteHouseModel$BarredStoresModel" (102 : Nat) (100000 : Int64)) ∈ lw_all := lw_g (lw_at lw_m33 17 rfl) rfl
theorem q8091 : (Jvm.Cond.instanceMethod ({ cls := "WasteHouseModel$BarredStoresModel", name := "put", desc := "(II)I" } : Jvm.MethodName)) ∈ lw_all := lw_g (lw_at lw_m33 19 rfl) rfl
theorem q8092 : (Jvm.Cond.selects "WasteHouseModel$BarredStoresModel" ({ cls := "WasteHouseModel$BarredStoresModel", name := "put", desc := "(II)I" } : Jvm.MethodName) ({ cls := "WasteHouseModel$BarredStoresModel", name := "put", desc := "(II)I" } : Jvm.MethodName)) ∈ lw_all := lw_g (lw_at lw_m33 20 rfl) rfl
theorem q8093 : (Jvm.Cond.code ({ cls := "WasteHouseModel$BarredStoresModel", name := "put", desc := "(II)I" } : Jvm.MethodName) prog_58_method_19_code (4 : Nat) (Option.some Jvm.ClassFile.FieldType.int)) ∈ lw_all := lw_g (lw_at lw_m33 21 rfl) rfl
theorem q8094 : (Jvm.Cond.methodLink "WasteHouseModel$BarredStoresModel" (136 : Nat) ({ cls := "WasteHouseModel$BarredStoresModel", name := "isLoad", desc := "(I)Z" } : Jvm.MethodName)) ∈ lw_all := lw_g (lw_at lw_m33 22 rfl) rfl
theorem q8095 : (Jvm.Cond.privateMethod ({ cls := "WasteHouseModel$BarredStoresModel", name := "isLoad", desc := "(I)Z" } : Jvm.MethodName)) ∈ lw_tbl := lw_at lw_m33 23 rfl
theorem q8096 : (Jvm.Cond.instanceMethod ({ cls := "WasteHouseModel$BarredStoresModel", name := "isLoad", desc := "(I)Z" } : Jvm.MethodName)) ∈ lw_all := lw_g (lw_at lw_m33 24 rfl) rfl
theorem q8097 : (Jvm.Cond.code ({ cls := "WasteHouseModel$BarredStoresModel", name := "isLoad", desc := "(I)Z" } : Jvm.MethodName) prog_58_method_6_code (2 : Nat) (Option.some Jvm.ClassFile.FieldType.boolean)) ∈ lw_all := lw_g (lw_at lw_m33 25 rfl) rfl
theorem q8098 : (Jvm.Cond.methodLink "WasteHouseModel$BarredStoresModel" (128 : Nat) ({ cls := "WasteHouseModel$BarredStoresModel", name := "isPlace", desc := "(I)Z" } : Jvm.MethodName)) ∈ lw_all := lw_g (lw_at lw_m33 26 rfl) rfl
theorem q8099 : (Jvm.Cond.privateMethod ({ cls := "WasteHouseModel$BarredStoresModel", name := "isPlace", desc := "(I)Z" } : Jvm.MethodName)) ∈ lw_tbl := lw_at lw_m33 27 rfl
theorem q8100 : (Jvm.Cond.instanceMethod ({ cls := "WasteHouseModel$BarredStoresModel", name := "isPlace", desc := "(I)Z" } : Jvm.MethodName)) ∈ lw_all := lw_g (lw_at lw_m33 28 rfl) rfl
theorem q8101 : (Jvm.Cond.code ({ cls := "WasteHouseModel$BarredStoresModel", name := "isPlace", desc := "(I)Z" } : Jvm.MethodName) prog_58_method_5_code (2 : Nat) (Option.some Jvm.ClassFile.FieldType.boolean)) ∈ lw_all := lw_g (lw_at lw_m33 29 rfl) rfl
theorem q8102 : (Jvm.Cond.methodLink "WasteHouseModel$BarredStoresModel" (124 : Nat) ({ cls := "WasteHouseModel$BarredStoresModel", name := "isGood", desc := "([I)Z" } : Jvm.MethodName)) ∈ lw_all := lw_g (lw_at lw_m33 30 rfl) rfl
theorem q8103 : (Jvm.Cond.privateMethod ({ cls := "WasteHouseModel$BarredStoresModel", name := "isGood", desc := "([I)Z" } : Jvm.MethodName)) ∈ lw_tbl := lw_at lw_m33 31 rfl
theorem q8104 : (Jvm.Cond.instanceMethod ({ cls := "WasteHouseModel$BarredStoresModel", name := "isGood", desc := "([I)Z" } : Jvm.MethodName)) ∈ lw_all := lw_g (lw_at lw_m33 32 rfl) rfl
theorem q8105 : (Jvm.Cond.code ({ cls := "WasteHouseModel$BarredStoresModel", name := "isGood", desc := "([I)Z" } : Jvm.MethodName) prog_58_method_15_code (5 : Nat) (Option.some Jvm.ClassFile.FieldType.boolean)) ∈ lw_all := lw_g (lw_at lw_m33 33 rfl) rfl
theorem q8106 : (Jvm.Cond.methodLink "WasteHouseModel$BarredStoresModel" (112 : Nat) ({ cls := "WasteHouseModel$BarredStoresModel", name := "isNear", desc := "([III)Z" } : Jvm.MethodName)) ∈ lw_all := lw_g (lw_at lw_m33 34 rfl) rfl
theorem q8107 : (Jvm.Cond.privateMethod ({ cls := "WasteHouseModel$BarredStoresModel", name := "isNear", desc := "([III)Z" } : Jvm.MethodName)) ∈ lw_tbl := lw_at lw_m33 35 rfl
theorem q8108 : (Jvm.Cond.instanceMethod ({ cls := "WasteHouseModel$BarredStoresModel", name := "isNear", desc := "([III)Z" } : Jvm.MethodName)) ∈ lw_all := lw_g (lw_at lw_m33 36 rfl) rfl
theorem q8109 : (Jvm.Cond.code ({ cls := "WasteHouseModel$BarredStoresModel", name := "isNear", desc := "([III)Z" } : Jvm.MethodName) prog_58_method_12_code (5 : Nat) (Option.some Jvm.ClassFile.FieldType.boolean)) ∈ lw_all := lw_g (lw_at lw_m33 37 rfl) rfl
theorem q8110 : (Jvm.Cond.methodLink "WasteHouseModel$BarredStoresModel" (104 : Nat) ({ cls := "WasteHouseModel$BarredStoresModel", name := "square", desc := "(II)I" } : Jvm.MethodName)) ∈ lw_all := lw_g (lw_at lw_m33 38 rfl) rfl
theorem q8111 : (Jvm.Cond.privateMethod ({ cls := "WasteHouseModel$BarredStoresModel", name := "square", desc := "(II)I" } : Jvm.MethodName)) ∈ lw_tbl := lw_at lw_m33 39 rfl
theorem q8112 : (Jvm.Cond.instanceMethod ({ cls := "WasteHouseModel$BarredStoresModel", name := "square", desc := "(II)I" } : Jvm.MethodName)) ∈ lw_all := lw_g (lw_at lw_m33 40 rfl) rfl
theorem q8113 : (Jvm.Cond.code ({ cls := "WasteHouseModel$BarredStoresModel", name := "square", desc := "(II)I" } : Jvm.MethodName) prog_58_method_11_code (3 : Nat) (Option.some Jvm.ClassFile.FieldType.int)) ∈ lw_all := lw_g (lw_at lw_m33 41 rfl) rfl
theorem q8114 : (Jvm.Cond.methodLink "WasteHouseModel$BarredStoresModel" (116 : Nat) ({ cls := "WasteHouseModel$BarredStoresModel", name := "isTooMuch", desc := "([II)Z" } : Jvm.MethodName)) ∈ lw_all := lw_g (lw_at lw_m33 42 rfl) rfl
theorem q8115 : (Jvm.Cond.privateMethod ({ cls := "WasteHouseModel$BarredStoresModel", name := "isTooMuch", desc := "([II)Z" } : Jvm.MethodName)) ∈ lw_tbl := lw_at lw_m33 43 rfl
theorem q8116 : (Jvm.Cond.instanceMethod ({ cls := "WasteHouseModel$BarredStoresModel", name := "isTooMuch", desc := "([II)Z" } : Jvm.MethodName)) ∈ lw_all := lw_g (lw_at lw_m33 44 rfl) rfl
theorem q8117 : (Jvm.Cond.code ({ cls := "WasteHouseModel$BarredStoresModel", name := "isTooMuch", desc := "([II)Z" } : Jvm.MethodName) prog_58_method_13_code (6 : Nat) (Option.some Jvm.ClassFile.FieldType.boolean)) ∈ lw_all := lw_g (lw_at lw_m33 45 rfl) rfl
theorem q8118 : (Jvm.Cond.methodLink "WasteHouseModel$BarredStoresModel" (120 : Nat) ({ cls := "WasteHouseModel$BarredStoresModel", name := "needed", desc := "([II)J" } : Jvm.MethodName)) ∈ lw_all := lw_g (lw_at lw_m33 46 rfl) rfl
theorem q8119 : (Jvm.Cond.privateMethod ({ cls := "WasteHouseModel$BarredStoresModel", name := "needed", desc := "([II)J" } : Jvm.MethodName)) ∈ lw_tbl := lw_at lw_m33 47 rfl
theorem q8120 : (Jvm.Cond.instanceMethod ({ cls := "WasteHouseModel$BarredStoresModel", name := "needed", desc := "([II)J" } : Jvm.MethodName)) ∈ lw_all := lw_g (lw_at lw_m33 48 rfl) rfl
theorem q8121 : (Jvm.Cond.code ({ cls := "WasteHouseModel$BarredStoresModel", name := "needed", desc := "([II)J" } : Jvm.MethodName) prog_58_method_14_code (9 : Nat) (Option.some Jvm.ClassFile.FieldType.long)) ∈ lw_all := lw_g (lw_at lw_m33 49 rfl) rfl
theorem q8122 : (Jvm.Cond.constantLong "WasteHouseModel$BarredStoresModel" (108 : Nat) (9 : Int64)) ∈ lw_all := lw_g (lw_at lw_m33 50 rfl) rfl
theorem q8123 : (Jvm.Cond.constantLong "WasteHouseModel$BarredStoresModel" (110 : Nat) (10 : Int64)) ∈ lw_all := lw_g (lw_at lw_m33 51 rfl) rfl
theorem q8124 : (Jvm.Cond.methodLink "WasteHouseModel$BarredStoresModel" (139 : Nat) ({ cls := "WasteHouseModel$BarredStoresModel", name := "bring", desc := "(II)V" } : Jvm.MethodName)) ∈ lw_all := lw_g (lw_at lw_m33 52 rfl) rfl
theorem q8125 : (Jvm.Cond.privateMethod ({ cls := "WasteHouseModel$BarredStoresModel", name := "bring", desc := "(II)V" } : Jvm.MethodName)) ∈ lw_tbl := lw_at lw_m33 53 rfl
theorem q8126 : (Jvm.Cond.instanceMethod ({ cls := "WasteHouseModel$BarredStoresModel", name := "bring", desc := "(II)V" } : Jvm.MethodName)) ∈ lw_all := lw_g (lw_at lw_m33 54 rfl) rfl
theorem q8127 : (Jvm.Cond.code ({ cls := "WasteHouseModel$BarredStoresModel", name := "bring", desc := "(II)V" } : Jvm.MethodName) prog_58_method_18_code (3 : Nat) (Option.none : Option Jvm.ClassFile.FieldType)) ∈ lw_all := lw_g (lw_at lw_m33 55 rfl) rfl
theorem q8274 : (Jvm.Cond.instanceMethod ({ cls := "WasteHouseModel$BarredStoresModel", name := "kept", desc := "()Z" } : Jvm.MethodName)) ∈ lw_all := lw_g (lw_at lw_m33 202 rfl) rfl
theorem q8275 : (Jvm.Cond.selects "WasteHouseModel$BarredStoresModel" ({ cls := "WasteHouseModel$BarredStoresModel", name := "kept", desc := "()Z" } : Jvm.MethodName) ({ cls := "WasteHouseModel$BarredStoresModel", name := "kept", desc := "()Z" } : Jvm.MethodName)) ∈ lw_all := lw_g (lw_at lw_m33 203 rfl) rfl
theorem q8276 : (Jvm.Cond.code ({ cls := "WasteHouseModel$BarredStoresModel", name := "kept", desc := "()Z" } : Jvm.MethodName) prog_58_method_16_code (1 : Nat) (Option.some Jvm.ClassFile.FieldType.boolean)) ∈ lw_all := lw_g (lw_at lw_m33 204 rfl) rfl
theorem q8860 : (Jvm.Cond.instanceMethod ({ cls := "WasteHouseModel$BarredStoresModel", name := "bar", desc := "(III)Z" } : Jvm.MethodName)) ∈ lw_all := lw_g (lw_at lw_m36 68 rfl) rfl
theorem q8861 : (Jvm.Cond.selects "WasteHouseModel$BarredStoresModel" ({ cls := "WasteHouseModel$BarredStoresModel", name := "bar", desc := "(III)Z" } : Jvm.MethodName) ({ cls := "WasteHouseModel$BarredStoresModel", name := "bar", desc := "(III)Z" } : Jvm.MethodName)) ∈ lw_all := lw_g (lw_at lw_m36 69 rfl) rfl
theorem q8862 : (Jvm.Cond.code ({ cls := "WasteHouseModel$BarredStoresModel", name := "bar", desc := "(III)Z" } : Jvm.MethodName) prog_58_method_7_code (4 : Nat) (Option.some Jvm.ClassFile.FieldType.boolean)) ∈ lw_all := lw_g (lw_at lw_m36 70 rfl) rfl
theorem q8863 : (Jvm.Cond.constantLong "WasteHouseModel$BarredStoresModel" (88 : Nat) (3000 : Int64)) ∈ lw_all := lw_g (lw_at lw_m36 71 rfl) rfl
theorem q8866 : (Jvm.Cond.instanceMethod ({ cls := "WasteHouseModel$BarredStoresModel", name := "most", desc := "(IJ)Z" } : Jvm.MethodName)) ∈ lw_all := lw_g (lw_at lw_m36 74 rfl) rfl
theorem q8867 : (Jvm.Cond.selects "WasteHouseModel$BarredStoresModel" ({ cls := "WasteHouseModel$BarredStoresModel", name := "most", desc := "(IJ)Z" } : Jvm.MethodName) ({ cls := "WasteHouseModel$BarredStoresModel", name := "most", desc := "(IJ)Z" } : Jvm.MethodName)) ∈ lw_all := lw_g (lw_at lw_m36 75 rfl) rfl
theorem q8868 : (Jvm.Cond.code ({ cls := "WasteHouseModel$BarredStoresModel", name := "most", desc := "(IJ)Z" } : Jvm.MethodName) prog_58_method_8_code (4 : Nat) (Option.some Jvm.ClassFile.FieldType.boolean)) ∈ lw_all := lw_g (lw_at lw_m36 76 rfl) rfl
theorem q8872 : (Jvm.Cond.instanceMethod ({ cls := "WasteHouseModel$BarredStoresModel", name := "place", desc := "(JJJ)I" } : Jvm.MethodName)) ∈ lw_all := lw_g (lw_at lw_m36 80 rfl) rfl
theorem q8873 : (Jvm.Cond.selects "WasteHouseModel$BarredStoresModel" ({ cls := "WasteHouseModel$BarredStoresModel", name := "place", desc := "(JJJ)I" } : Jvm.MethodName) ({ cls := "WasteHouseModel$BarredStoresModel", name := "place", desc := "(JJJ)I" } : Jvm.MethodName)) ∈ lw_all := lw_g (lw_at lw_m36 81 rfl) rfl
theorem q8874 : (Jvm.Cond.code ({ cls := "WasteHouseModel$BarredStoresModel", name := "place", desc := "(JJJ)I" } : Jvm.MethodName) prog_58_method_9_code (7 : Nat) (Option.some Jvm.ClassFile.FieldType.int)) ∈ lw_all := lw_g (lw_at lw_m36 82 rfl) rfl
theorem q8875 : (Jvm.Cond.constantLong "WasteHouseModel$BarredStoresModel" (94 : Nat) (-1000 : Int64)) ∈ lw_all := lw_g (lw_at lw_m36 83 rfl) rfl
theorem q8876 : (Jvm.Cond.constantLong "WasteHouseModel$BarredStoresModel" (96 : Nat) (1000 : Int64)) ∈ lw_all := lw_g (lw_at lw_m36 84 rfl) rfl
theorem q8877 : (Jvm.Cond.constantLong "WasteHouseModel$BarredStoresModel" (98 : Nat) (1000000 : Int64)) ∈ lw_all := lw_g (lw_at lw_m36 85 rfl) rfl
theorem q8881 : (Jvm.Cond.instanceMethod ({ cls := "WasteHouseModel$BarredStoresModel", name := "placeOf", desc := "(I)I" } : Jvm.MethodName)) ∈ lw_all := lw_g (lw_at lw_m36 89 rfl) rfl
theorem q8882 : (Jvm.Cond.selects "WasteHouseModel$BarredStoresModel" ({ cls := "WasteHouseModel$BarredStoresModel", name := "placeOf", desc := "(I)I" } : Jvm.MethodName) ({ cls := "WasteHouseModel$BarredStoresModel", name := "placeOf", desc := "(I)I" } : Jvm.MethodName)) ∈ lw_all := lw_g (lw_at lw_m36 90 rfl) rfl
theorem q8883 : (Jvm.Cond.code ({ cls := "WasteHouseModel$BarredStoresModel", name := "placeOf", desc := "(I)I" } : Jvm.MethodName) prog_58_method_20_code (2 : Nat) (Option.some Jvm.ClassFile.FieldType.int)) ∈ lw_all := lw_g (lw_at lw_m36 91 rfl) rfl
theorem q8886 : (Jvm.Cond.instanceMethod ({ cls := "WasteHouseModel$BarredStoresModel", name := "plan", desc := "(I)I" } : Jvm.MethodName)) ∈ lw_all := lw_g (lw_at lw_m36 94 rfl) rfl
theorem q8887 : (Jvm.Cond.selects "WasteHouseModel$BarredStoresModel" ({ cls := "WasteHouseModel$BarredStoresModel", name := "plan", desc := "(I)I" } : Jvm.MethodName) ({ cls := "WasteHouseModel$BarredStoresModel", name := "plan", desc := "(I)I" } : Jvm.MethodName)) ∈ lw_all := lw_g (lw_at lw_m36 95 rfl) rfl
theorem q8888 : (Jvm.Cond.code ({ cls := "WasteHouseModel$BarredStoresModel", name := "plan", desc := "(I)I" } : Jvm.MethodName) prog_58_method_21_code (5 : Nat) (Option.some Jvm.ClassFile.FieldType.int)) ∈ lw_all := lw_g (lw_at lw_m36 96 rfl) rfl
theorem q8889 : (Jvm.Cond.methodLink "WasteHouseModel$BarredStoresModel" (143 : Nat) ({ cls := "WasteHouseModel$BarredStoresModel", name := "next", desc := "(I)Z" } : Jvm.MethodName)) ∈ lw_all := lw_g (lw_at lw_m36 97 rfl) rfl
theorem q8890 : (Jvm.Cond.privateMethod ({ cls := "WasteHouseModel$BarredStoresModel", name := "next", desc := "(I)Z" } : Jvm.MethodName)) ∈ lw_tbl := lw_at lw_m36 98 rfl
theorem q8891 : (Jvm.Cond.instanceMethod ({ cls := "WasteHouseModel$BarredStoresModel", name := "next", desc := "(I)Z" } : Jvm.MethodName)) ∈ lw_all := lw_g (lw_at lw_m36 99 rfl) rfl
theorem q8892 : (Jvm.Cond.code ({ cls := "WasteHouseModel$BarredStoresModel", name := "next", desc := "(I)Z" } : Jvm.MethodName) prog_58_method_22_code (3 : Nat) (Option.some Jvm.ClassFile.FieldType.boolean)) ∈ lw_all := lw_g (lw_at lw_m36 100 rfl) rfl
theorem q8895 : (Jvm.Cond.instanceMethod ({ cls := "WasteHouseModel$BarredStoresModel", name := "moves", desc := "(II)I" } : Jvm.MethodName)) ∈ lw_all := lw_g (lw_at lw_m36 103 rfl) rfl
theorem q8896 : (Jvm.Cond.selects "WasteHouseModel$BarredStoresModel" ({ cls := "WasteHouseModel$BarredStoresModel", name := "moves", desc := "(II)I" } : Jvm.MethodName) ({ cls := "WasteHouseModel$BarredStoresModel", name := "moves", desc := "(II)I" } : Jvm.MethodName)) ∈ lw_all := lw_g (lw_at lw_m36 104 rfl) rfl
theorem q8897 : (Jvm.Cond.code ({ cls := "WasteHouseModel$BarredStoresModel", name := "moves", desc := "(II)I" } : Jvm.MethodName) prog_58_method_27_code (7 : Nat) (Option.some Jvm.ClassFile.FieldType.int)) ∈ lw_all := lw_g (lw_at lw_m36 105 rfl) rfl
theorem q8898 : (Jvm.Cond.methodLink "WasteHouseModel$BarredStoresModel" (153 : Nat) ({ cls := "WasteHouseModel$BarredStoresModel", name := "judgeAll", desc := "()V" } : Jvm.MethodName)) ∈ lw_all := lw_g (lw_at lw_m36 106 rfl) rfl
theorem q8899 : (Jvm.Cond.privateMethod ({ cls := "WasteHouseModel$BarredStoresModel", name := "judgeAll", desc := "()V" } : Jvm.MethodName)) ∈ lw_tbl := lw_at lw_m36 107 rfl
theorem q8900 : (Jvm.Cond.instanceMethod ({ cls := "WasteHouseModel$BarredStoresModel", name := "judgeAll", desc := "()V" } : Jvm.MethodName)) ∈ lw_all := lw_g (lw_at lw_m36 108 rfl) rfl
theorem q8901 : (Jvm.Cond.code ({ cls := "WasteHouseModel$BarredStoresModel", name := "judgeAll", desc := "()V" } : Jvm.MethodName) prog_58_method_26_code (4 : Nat) (Option.none : Option Jvm.ClassFile.FieldType)) ∈ lw_all := lw_g (lw_at lw_m36 109 rfl) rfl
theorem q8902 : (Jvm.Cond.methodLink "WasteHouseModel$BarredStoresModel" (146 : Nat) ({ cls := "WasteHouseModel$BarredStoresModel", name := "statesOfLoads", desc := "()I" } : Jvm.MethodName)) ∈ lw_all := lw_g (lw_at lw_m36 110 rfl) rfl
theorem q8903 : (Jvm.Cond.privateMethod ({ cls := "WasteHouseModel$BarredStoresModel", name := "statesOfLoads", desc := "()I" } : Jvm.MethodName)) ∈ lw_tbl := lw_at lw_m36 111 rfl
theorem q8904 : (Jvm.Cond.instanceMethod ({ cls := "WasteHouseModel$BarredStoresModel", name := "statesOfLoads", desc := "()I" } : Jvm.MethodName)) ∈ lw_all := lw_g (lw_at lw_m36 112 rfl) rfl
theorem q8905 : (Jvm.Cond.code ({ cls := "WasteHouseModel$BarredStoresModel", name := "statesOfLoads", desc := "()I" } : Jvm.MethodName) prog_58_method_25_code (1 : Nat) (Option.some Jvm.ClassFile.FieldType.int)) ∈ lw_all := lw_g (lw_at lw_m36 113 rfl) rfl
theorem q8906 : (Jvm.Cond.methodLink "WasteHouseModel$BarredStoresModel" (150 : Nat) ({ cls := "WasteHouseModel$BarredStoresModel", name := "digit", desc := "(II)I" } : Jvm.MethodName)) ∈ lw_all := lw_g (lw_at lw_m36 114 rfl) rfl
theorem q8907 : (Jvm.Cond.privateMethod ({ cls := "WasteHouseModel$BarredStoresModel", name := "digit", desc := "(II)I" } : Jvm.MethodName)) ∈ lw_tbl := lw_at lw_m36 115 rfl
theorem q8908 : (Jvm.Cond.instanceMethod ({ cls := "WasteHouseModel$BarredStoresModel", name := "digit", desc := "(II)I" } : Jvm.MethodName)) ∈ lw_all := lw_g (lw_at lw_m36 116 rfl) rfl
theorem q8909 : (Jvm.Cond.code ({ cls := "WasteHouseModel$BarredStoresModel", name := "digit", desc := "(II)I" } : Jvm.MethodName) prog_58_method_23_code (3 : Nat) (Option.some Jvm.ClassFile.FieldType.int)) ∈ lw_all := lw_g (lw_at lw_m36 117 rfl) rfl
theorem q8910 : (Jvm.Cond.methodLink "WasteHouseModel$BarredStoresModel" (156 : Nat) ({ cls := "WasteHouseModel$BarredStoresModel", name := "stateNow", desc := "()I" } : Jvm.MethodName)) ∈ lw_all := lw_g (lw_at lw_m36 118 rfl) rfl
theorem q8911 : (Jvm.Cond.privateMethod ({ cls := "WasteHouseModel$BarredStoresModel", name := "stateNow", desc := "()I" } : Jvm.MethodName)) ∈ lw_tbl := lw_at lw_m36 119 rfl
theorem q8912 : (Jvm.Cond.instanceMethod ({ cls := "WasteHouseModel$BarredStoresModel", name := "stateNow", desc := "()I" } : Jvm.MethodName)) ∈ lw_all := lw_g (lw_at lw_m36 120 rfl) rfl
theorem q8913 : (Jvm.Cond.code ({ cls := "WasteHouseModel$BarredStoresModel", name := "stateNow", desc := "()I" } : Jvm.MethodName) prog_58_method_24_code (3 : Nat) (Option.some Jvm.ClassFile.FieldType.int)) ∈ lw_all := lw_g (lw_at lw_m36 121 rfl) rfl
theorem q8914 : (Jvm.Cond.constant "WasteHouseModel$BarredStoresModel" (159 : Nat) (1000000 : Int32)) ∈ lw_all := lw_g (lw_at lw_m36 122 rfl) rfl
theorem q8915 : (Jvm.Cond.methodLink "WasteHouseModel$BarredStoresModel" (160 : Nat) ({ cls := "WasteHouseModel$BarredStoresModel", name := "leastBehind", desc := "(I)I" } : Jvm.MethodName)) ∈ lw_all := lw_g (lw_at lw_m36 123 rfl) rfl
theorem q8916 : (Jvm.Cond.privateMethod ({ cls := "WasteHouseModel$BarredStoresModel", name := "leastBehind", desc := "(I)I" } : Jvm.MethodName)) ∈ lw_tbl := lw_at lw_m36 124 rfl
theorem q8917 : (Jvm.Cond.instanceMethod ({ cls := "WasteHouseModel$BarredStoresModel", name := "leastBehind", desc := "(I)I" } : Jvm.MethodName)) ∈ lw_all := lw_g (lw_at lw_m36 125 rfl) rfl
theorem q8918 : (Jvm.Cond.code ({ cls := "WasteHouseModel$BarredStoresModel", name := "leastBehind", desc := "(I)I" } : Jvm.MethodName) prog_58_method_28_code (6 : Nat) (Option.some Jvm.ClassFile.FieldType.int)) ∈ lw_all := lw_g (lw_at lw_m36 126 rfl) rfl
theorem q8919 : (Jvm.Cond.methodLink "WasteHouseModel$BarredStoresModel" (164 : Nat) ({ cls := "WasteHouseModel$BarredStoresModel", name := "stepFrom", desc := "(I)I" } : Jvm.MethodName)) ∈ lw_all := lw_g (lw_at lw_m36 127 rfl) rfl
theorem q8920 : (Jvm.Cond.privateMethod ({ cls := "WasteHouseModel$BarredStoresModel", name := "stepFrom", desc := "(I)I" } : Jvm.MethodName)) ∈ lw_tbl := lw_at lw_m36 128 rfl
theorem q8921 : (Jvm.Cond.instanceMethod ({ cls := "WasteHouseModel$BarredStoresModel", name := "stepFrom", desc := "(I)I" } : Jvm.MethodName)) ∈ lw_all := lw_g (lw_at lw_m36 129 rfl) rfl
theorem q8922 : (Jvm.Cond.code ({ cls := "WasteHouseModel$BarredStoresModel", name := "stepFrom", desc := "(I)I" } : Jvm.MethodName) prog_58_method_29_code (5 : Nat) (Option.some Jvm.ClassFile.FieldType.int)) ∈ lw_all := lw_g (lw_at lw_m36 130 rfl) rfl
theorem q8925 : (Jvm.Cond.instanceMethod ({ cls := "WasteHouseModel$BarredStoresModel", name := "step", desc := "(II)I" } : Jvm.MethodName)) ∈ lw_all := lw_g (lw_at lw_m36 133 rfl) rfl
theorem q8926 : (Jvm.Cond.selects "WasteHouseModel$BarredStoresModel" ({ cls := "WasteHouseModel$BarredStoresModel", name := "step", desc := "(II)I" } : Jvm.MethodName) ({ cls := "WasteHouseModel$BarredStoresModel", name := "step", desc := "(II)I" } : Jvm.MethodName)) ∈ lw_all := lw_g (lw_at lw_m36 134 rfl) rfl
theorem q8927 : (Jvm.Cond.code ({ cls := "WasteHouseModel$BarredStoresModel", name := "step", desc := "(II)I" } : Jvm.MethodName) prog_58_method_30_code (3 : Nat) (Option.some Jvm.ClassFile.FieldType.int)) ∈ lw_all := lw_g (lw_at lw_m36 135 rfl) rfl
theorem q8930 : (Jvm.Cond.instanceMethod ({ cls := "WasteHouseModel$BarredStoresModel", name := "basin", desc := "(II)J" } : Jvm.MethodName)) ∈ lw_all := lw_g (lw_at lw_m36 138 rfl) rfl
theorem q8931 : (Jvm.Cond.selects "WasteHouseModel$BarredStoresModel" ({ cls := "WasteHouseModel$BarredStoresModel", name := "basin", desc := "(II)J" } : Jvm.MethodName) ({ cls := "WasteHouseModel$BarredStoresModel", name := "basin", desc := "(II)J" } : Jvm.MethodName)) ∈ lw_all := lw_g (lw_at lw_m36 139 rfl) rfl
theorem q8932 : (Jvm.Cond.code ({ cls := "WasteHouseModel$BarredStoresModel", name := "basin", desc := "(II)J" } : Jvm.MethodName) prog_58_method_17_code (3 : Nat) (Option.some Jvm.ClassFile.FieldType.long)) ∈ lw_all := lw_g (lw_at lw_m36 140 rfl) rfl
theorem q8933 : (Jvm.Cond.constantLong "WasteHouseModel$BarredStoresModel" (131 : Nat) (-1 : Int64)) ∈ lw_all := lw_g (lw_at lw_m36 141 rfl) rfl
theorem q8938 : (Jvm.Cond.instanceMethod ({ cls := "WasteHouseModel$BarredStoresModel", name := "trial", desc := "(IID)I" } : Jvm.MethodName)) ∈ lw_all := lw_g (lw_at lw_m36 146 rfl) rfl
theorem q8939 : (Jvm.Cond.selects "WasteHouseModel$BarredStoresModel" ({ cls := "WasteHouseModel$BarredStoresModel", name := "trial", desc := "(IID)I" } : Jvm.MethodName) ({ cls := "WasteHouseModel$BarredStoresModel", name := "trial", desc := "(IID)I" } : Jvm.MethodName)) ∈ lw_all := lw_g (lw_at lw_m36 147 rfl) rfl
theorem q8940 : (Jvm.Cond.code ({ cls := "WasteHouseModel$BarredStoresModel", name := "trial", desc := "(IID)I" } : Jvm.MethodName) prog_58_method_32_code (6 : Nat) (Option.some Jvm.ClassFile.FieldType.int)) ∈ lw_all := lw_g (lw_at lw_m36 148 rfl) rfl
theorem q8941 : (Jvm.Cond.constantDouble "WasteHouseModel$BarredStoresModel" (167 : Nat) (13860109328209412096 : UInt64)) ∈ lw_all := lw_g (lw_at lw_m36 149 rfl) rfl
theorem q8942 : (Jvm.Cond.constantDouble "WasteHouseModel$BarredStoresModel" (169 : Nat) (4652007308841189376 : UInt64)) ∈ lw_all := lw_g (lw_at lw_m36 150 rfl) rfl
theorem q8943 : (Jvm.Cond.methodLink "WasteHouseModel$BarredStoresModel" (171 : Nat) ({ cls := "WasteHouseModel$BarredStoresModel", name := "arePair", desc := "(II)Z" } : Jvm.MethodName)) ∈ lw_all := lw_g (lw_at lw_m36 151 rfl) rfl
theorem q8944 : (Jvm.Cond.privateMethod ({ cls := "WasteHouseModel$BarredStoresModel", name := "arePair", desc := "(II)Z" } : Jvm.MethodName)) ∈ lw_tbl := lw_at lw_m36 152 rfl
theorem q8945 : (Jvm.Cond.instanceMethod ({ cls := "WasteHouseModel$BarredStoresModel", name := "arePair", desc := "(II)Z" } : Jvm.MethodName)) ∈ lw_all := lw_g (lw_at lw_m36 153 rfl) rfl
theorem q8946 : (Jvm.Cond.code ({ cls := "WasteHouseModel$BarredStoresModel", name := "arePair", desc := "(II)Z" } : Jvm.MethodName) prog_58_method_31_code (3 : Nat) (Option.some Jvm.ClassFile.FieldType.boolean)) ∈ lw_all := lw_g (lw_at lw_m36 154 rfl) rfl
theorem q8947 : (Jvm.Cond.constantDouble "WasteHouseModel$BarredStoresModel" (175 : Nat) (4617315517961601024 : UInt64)) ∈ lw_all := lw_g (lw_at lw_m36 155 rfl) rfl
theorem q8950 : (Jvm.Cond.instanceMethod ({ cls := "WasteHouseModel$BarredStoresModel", name := "mix", desc := "(II)I" } : Jvm.MethodName)) ∈ lw_all := lw_g (lw_at lw_m36 158 rfl) rfl
theorem q8951 : (Jvm.Cond.selects "WasteHouseModel$BarredStoresModel" ({ cls := "WasteHouseModel$BarredStoresModel", name := "mix", desc := "(II)I" } : Jvm.MethodName) ({ cls := "WasteHouseModel$BarredStoresModel", name := "mix", desc := "(II)I" } : Jvm.MethodName)) ∈ lw_all := lw_g (lw_at lw_m36 159 rfl) rfl
theorem q8952 : (Jvm.Cond.code ({ cls := "WasteHouseModel$BarredStoresModel", name := "mix", desc := "(II)I" } : Jvm.MethodName) prog_58_method_33_code (10 : Nat) (Option.some Jvm.ClassFile.FieldType.int)) ∈ lw_all := lw_g (lw_at lw_m36 160 rfl) rfl
theorem q8955 : (Jvm.Cond.instanceMethod ({ cls := "WasteHouseModel$BarredStoresModel", name := "key", desc := "(II)Z" } : Jvm.MethodName)) ∈ lw_all := lw_g (lw_at lw_m36 163 rfl) rfl
theorem q8956 : (Jvm.Cond.selects "WasteHouseModel$BarredStoresModel" ({ cls := "WasteHouseModel$BarredStoresModel", name := "key", desc := "(II)Z" } : Jvm.MethodName) ({ cls := "WasteHouseModel$BarredStoresModel", name := "key", desc := "(II)Z" } : Jvm.MethodName)) ∈ lw_all := lw_g (lw_at lw_m36 164 rfl) rfl
theorem q8957 : (Jvm.Cond.code ({ cls := "WasteHouseModel$BarredStoresModel", name := "key", desc := "(II)Z" } : Jvm.MethodName) prog_58_method_36_code (3 : Nat) (Option.some Jvm.ClassFile.FieldType.boolean)) ∈ lw_all := lw_g (lw_at lw_m36 165 rfl) rfl
theorem q8959 : (Jvm.Cond.instanceMethod ({ cls := "WasteHouseModel$BarredStoresModel", name := "open", desc := "(II)Z" } : Jvm.MethodName)) ∈ lw_all := lw_g (lw_at lw_m36 167 rfl) rfl
theorem q8960 : (Jvm.Cond.selects "WasteHouseModel$BarredStoresModel" ({ cls := "WasteHouseModel$BarredStoresModel", name := "open", desc := "(II)Z" } : Jvm.MethodName) ({ cls := "WasteHouseModel$BarredStoresModel", name := "open", desc := "(II)Z" } : Jvm.MethodName)) ∈ lw_all := lw_g (lw_at lw_m36 168 rfl) rfl
theorem q8961 : (Jvm.Cond.code ({ cls := "WasteHouseModel$BarredStoresModel", name := "open", desc := "(II)Z" } : Jvm.MethodName) prog_58_method_37_code (3 : Nat) (Option.some Jvm.ClassFile.FieldType.boolean)) ∈ lw_all := lw_g (lw_at lw_m36 169 rfl) rfl
theorem q8964 : (Jvm.Cond.instanceMethod ({ cls := "WasteHouseModel$BarredStoresModel", name := "first", desc := "(I)I" } : Jvm.MethodName)) ∈ lw_all := lw_g (lw_at lw_m36 172 rfl) rfl
theorem q8965 : (Jvm.Cond.selects "WasteHouseModel$BarredStoresModel" ({ cls := "WasteHouseModel$BarredStoresModel", name := "first", desc := "(I)I" } : Jvm.MethodName) ({ cls := "WasteHouseModel$BarredStoresModel", name := "first", desc := "(I)I" } : Jvm.MethodName)) ∈ lw_all := lw_g (lw_at lw_m36 173 rfl) rfl
theorem q8966 : (Jvm.Cond.code ({ cls := "WasteHouseModel$BarredStoresModel", name := "first", desc := "(I)I" } : Jvm.MethodName) prog_58_method_38_code (5 : Nat) (Option.some Jvm.ClassFile.FieldType.int)) ∈ lw_all := lw_g (lw_at lw_m36 174 rfl) rfl
theorem q8969 : (Jvm.Cond.instanceMethod ({ cls := "WasteHouseModel$BarredStoresModel", name := "drill", desc := "(II)I" } : Jvm.MethodName)) ∈ lw_all := lw_g (lw_at lw_m36 177 rfl) rfl
theorem q8970 : (Jvm.Cond.selects "WasteHouseModel$BarredStoresModel" ({ cls := "WasteHouseModel$BarredStoresModel", name := "drill", desc := "(II)I" } : Jvm.MethodName) ({ cls := "WasteHouseModel$BarredStoresModel", name := "drill", desc := "(II)I" } : Jvm.MethodName)) ∈ lw_all := lw_g (lw_at lw_m36 178 rfl) rfl
theorem q8971 : (Jvm.Cond.code ({ cls := "WasteHouseModel$BarredStoresModel", name := "drill", desc := "(II)I" } : Jvm.MethodName) prog_58_method_39_code (8 : Nat) (Option.some Jvm.ClassFile.FieldType.int)) ∈ lw_all := lw_g (lw_at lw_m36 179 rfl) rfl
theorem q8974 : (Jvm.Cond.instanceMethod ({ cls := "WasteHouseModel$BarredStoresModel", name := "inspect", desc := "(IJ)I" } : Jvm.MethodName)) ∈ lw_all := lw_g (lw_at lw_m36 182 rfl) rfl
theorem q8975 : (Jvm.Cond.selects "WasteHouseModel$BarredStoresModel" ({ cls := "WasteHouseModel$BarredStoresModel", name := "inspect", desc := "(IJ)I" } : Jvm.MethodName) ({ cls := "WasteHouseModel$BarredStoresModel", name := "inspect", desc := "(IJ)I" } : Jvm.MethodName)) ∈ lw_all := lw_g (lw_at lw_m36 183 rfl) rfl
theorem q8976 : (Jvm.Cond.code ({ cls := "WasteHouseModel$BarredStoresModel", name := "inspect", desc := "(IJ)I" } : Jvm.MethodName) prog_58_method_40_code (5 : Nat) (Option.some Jvm.ClassFile.FieldType.int)) ∈ lw_all := lw_g (lw_at lw_m36 184 rfl) rfl
theorem q9676 : (Jvm.Cond.castable "WasteHouseModel$BarredStoresModel" "java/lang/Object") ∈ lw_tbl := lw_at lw_m39 164 rfl
theorem in_X53 : ∀ w ∈ wsX530, w ∈ lw_all := lw_in wsX530 [7103, 7105, 7107, 7109, 7111, 7113, 7115, 7117, 7119, 7121, 7123, 7125, 7127, 7129, 7131, 7133, 7135, 7137, 7139, 7141, 7143, 7145, 7147, 7149, 7151] (by decide +kernel) (by decide +kernel)
