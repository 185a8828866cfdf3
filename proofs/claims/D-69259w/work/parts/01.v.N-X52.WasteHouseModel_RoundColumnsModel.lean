/-! WasteHouseModel$RoundColumnsModel -/
set_option maxRecDepth 100000
def RX52 : String := "WasteHouseModel$RoundColumnsModel"
def TX52 : u_T := fun k => match k with
  | 0 => ("WasteHouseModel$RoundColumnsModel", "bins", "I", false)
  | 1 => ("WasteHouseModel$RoundColumnsModel", "kilograms", "[I", true)
  | 2 => ("WasteHouseModel$RoundColumnsModel", "seconds", "[I", true)
  | 3 => ("WasteHouseModel$RoundColumnsModel", "waySeconds", "[I", true)
  | 4 => ("WasteHouseModel$RoundColumnsModel", "wayCosts", "[I", true)
  | 5 => ("WasteHouseModel$RoundColumnsModel", "load", "I", false)
  | 6 => ("WasteHouseModel$RoundColumnsModel", "time", "I", false)
  | 7 => ("WasteHouseModel$RoundColumnsModel", "vehicles", "I", false)
  | 8 => ("WasteHouseModel$RoundColumnsModel", "pairs", "[I", true)
  | 9 => ("WasteHouseModel$RoundColumnsModel", "isFound", "Z", false)
  | 10 => ("WasteHouseModel$RoundColumnsModel", "foundBins", "I", false)
  | 11 => ("WasteHouseModel$RoundColumnsModel", "foundLoad", "I", false)
  | 12 => ("WasteHouseModel$RoundColumnsModel", "foundVehicles", "I", false)
  | 13 => ("WasteHouseModel$RoundColumnsModel", "foundKilograms", "[I", true)
  | 14 => ("WasteHouseModel$RoundColumnsModel", "rows", "[Z", true)
  | 15 => ("WasteHouseModel$RoundColumnsModel", "rounds", "[Z", true)
  | 16 => ("WasteHouseModel$RoundColumnsModel", "costs", "[I", true)
  | 17 => ("WasteHouseModel$RoundColumnsModel", "lists", "[I", true)
  | 18 => ("WasteHouseModel$RoundColumnsModel", "barred", "[Z", true)
  | 19 => ("WasteHouseModel$RoundColumnsModel", "fault", "I", false)
  | 20 => ("WasteHouseModel$RoundColumnsModel", "row", "[I", true)
  | 21 => ("WasteHouseModel$RoundColumnsModel", "length", "I", false)
  | 22 => ("WasteHouseModel$RoundColumnsModel", "newRows", "[Z", true)
  | 23 => ("WasteHouseModel$RoundColumnsModel", "newRounds", "[Z", true)
  | 24 => ("WasteHouseModel$RoundColumnsModel", "newCosts", "[I", true)
  | 25 => ("WasteHouseModel$RoundColumnsModel", "newLists", "[I", true)
  | 26 => ("WasteHouseModel$RoundColumnsModel", "over", "[J", true)
  | 27 => ("WasteHouseModel$RoundColumnsModel", "under", "[J", true)
  | 28 => ("WasteHouseModel$RoundColumnsModel", "based", "[I", true)
  | _ => ("WasteHouseModel$RoundColumnsModel", "open", "[Z", true)
def tyX52 : Nat → FieldType := fun k => match k with
  | 0 => .int
  | 1 => .array .int
  | 2 => .array .int
  | 3 => .array .int
  | 4 => .array .int
  | 5 => .int
  | 6 => .int
  | 7 => .int
  | 8 => .array .int
  | 9 => .boolean
  | 10 => .int
  | 11 => .int
  | 12 => .int
  | 13 => .array .int
  | 14 => .array .boolean
  | 15 => .array .boolean
  | 16 => .array .int
  | 17 => .array .int
  | 18 => .array .boolean
  | 19 => .int
  | 20 => .array .int
  | 21 => .int
  | 22 => .array .boolean
  | 23 => .array .boolean
  | 24 => .array .int
  | 25 => .array .int
  | 26 => .array .long
  | 27 => .array .long
  | 28 => .array .int
  | _ => .array .boolean
abbrev wsX520 : List Cond := u_ws RX52 TX52 30
set_option maxRecDepth 100000 in
theorem nmX52 : ∀ a, a < 30 → ∀ b, b < 30 → a ≠ b → (TX52 a).2.1 ≠ (TX52 b).2.1 := by decide +kernel
set_option maxRecDepth 100000 in
theorem tyX52_ok : ∀ k, k < 30 → parseFieldDescriptor (TX52 k).2.2.1 = some (tyX52 k) := by decide +kernel
abbrev cX52_init : ByteArray := prog_63_method_1_code
def yX52_init : MethodName := ⟨RX52, "<init>", "()V"⟩
def dkwX52_init_9 : List UInt8 := [167, 255, 240, 177]
abbrev dktX52_init_9 : List UInt8 := dkwX52_init_9 ++ []
def dkwX52_init_8 : List UInt8 := [132, 1, 1, 167, 255, 240, 3, 60, 27, 16, 64, 162, 0, 16, 42, 180, 0, 35, 27, 2, 79, 132, 1, 1]
abbrev dktX52_init_8 : List UInt8 := dkwX52_init_8 ++ dktX52_init_9
def dkwX52_init_7 : List UInt8 := [16, 64, 188, 4, 181, 0, 69, 3, 60, 27, 16, 49, 162, 0, 16, 42, 180, 0, 16, 27, 2, 79]
abbrev dktX52_init_7 : List UInt8 := dkwX52_init_7 ++ dktX52_init_8
def dkwX52_init_6 : List UInt8 := [188, 11, 181, 0, 59, 42, 17, 2, 64, 188, 11, 181, 0, 63, 42, 16, 7, 188, 10, 181, 0, 66, 42]
abbrev dktX52_init_6 : List UInt8 := dkwX52_init_6 ++ dktX52_init_7
def dkwX52_init_5 : List UInt8 := [181, 0, 50, 42, 16, 64, 188, 10, 181, 0, 53, 42, 17, 1, 128, 188, 10, 181, 0, 56, 42, 17, 2, 64]
abbrev dktX52_init_5 : List UInt8 := dkwX52_init_5 ++ dktX52_init_6
def dkwX52_init_4 : List UInt8 := [42, 16, 6, 188, 10, 181, 0, 44, 42, 17, 1, 128, 188, 4, 181, 0, 47, 42, 17, 1, 128, 188, 4]
abbrev dktX52_init_4 : List UInt8 := dkwX52_init_4 ++ dktX52_init_5
def dkwX52_init_3 : List UInt8 := [16, 64, 188, 10, 181, 0, 35, 42, 17, 1, 128, 188, 10, 181, 0, 38, 42, 16, 64, 188, 4, 181, 0, 41]
abbrev dktX52_init_3 : List UInt8 := dkwX52_init_3 ++ dktX52_init_4
def dkwX52_init_2 : List UInt8 := [188, 10, 181, 0, 25, 42, 17, 1, 128, 188, 4, 181, 0, 28, 42, 17, 1, 128, 188, 4, 181, 0, 32, 42]
abbrev dktX52_init_2 : List UInt8 := dkwX52_init_2 ++ dktX52_init_3
def dkwX52_init_1 : List UInt8 := [188, 10, 181, 0, 16, 42, 16, 49, 188, 10, 181, 0, 19, 42, 16, 36, 188, 10, 181, 0, 22, 42, 16, 6]
abbrev dktX52_init_1 : List UInt8 := dkwX52_init_1 ++ dktX52_init_2
def dkwX52_init_0 : List UInt8 := [42, 183, 0, 1, 42, 16, 6, 188, 10, 181, 0, 7, 42, 16, 6, 188, 10, 181, 0, 13, 42, 16, 49]
abbrev dktX52_init_0 : List UInt8 := dkwX52_init_0 ++ dktX52_init_1
theorem dksX52_init_0 : cX52_init.data.toList.drop 0 = dktX52_init_0 := by decide +kernel
theorem dksX52_init_1 : cX52_init.data.toList.drop 23 = dktX52_init_1 := dk_seg dksX52_init_0 23 rfl rfl
theorem dksX52_init_2 : cX52_init.data.toList.drop 47 = dktX52_init_2 := dk_seg dksX52_init_1 24 rfl rfl
theorem dksX52_init_3 : cX52_init.data.toList.drop 71 = dktX52_init_3 := dk_seg dksX52_init_2 24 rfl rfl
theorem dksX52_init_4 : cX52_init.data.toList.drop 95 = dktX52_init_4 := dk_seg dksX52_init_3 24 rfl rfl
theorem dksX52_init_5 : cX52_init.data.toList.drop 118 = dktX52_init_5 := dk_seg dksX52_init_4 23 rfl rfl
theorem dksX52_init_6 : cX52_init.data.toList.drop 142 = dktX52_init_6 := dk_seg dksX52_init_5 24 rfl rfl
theorem dksX52_init_7 : cX52_init.data.toList.drop 165 = dktX52_init_7 := dk_seg dksX52_init_6 23 rfl rfl
theorem dksX52_init_8 : cX52_init.data.toList.drop 187 = dktX52_init_8 := dk_seg dksX52_init_7 22 rfl rfl
theorem dksX52_init_9 : cX52_init.data.toList.drop 211 = dktX52_init_9 := dk_seg dksX52_init_8 24 rfl rfl
theorem dX52_init_0 : decode cX52_init 0 = .ok (.aload_n 0, 1) := dk_42 (dk_at dksX52_init_0 0 rfl rfl)
theorem dX52_init_1 : decode cX52_init 1 = .ok (.invokespecial 1, 3) := dk_183 0 1 (dk_at dksX52_init_0 1 rfl rfl)
theorem dX52_init_4 : decode cX52_init 4 = .ok (.aload_n 0, 1) := dk_42 (dk_at dksX52_init_0 4 rfl rfl)
theorem dX52_init_5 : decode cX52_init 5 = .ok (.bipush 6, 2) := dk_16 6 (dk_at dksX52_init_0 5 rfl rfl)
theorem dX52_init_7 : decode cX52_init 7 = .ok (.newarray .int, 2) := dk_188_10 (dk_at dksX52_init_0 7 rfl rfl)
theorem dX52_init_9 : decode cX52_init 9 = .ok (.putfield 7, 3) := dk_181 0 7 (dk_at dksX52_init_0 9 rfl rfl)
theorem dX52_init_12 : decode cX52_init 12 = .ok (.aload_n 0, 1) := dk_42 (dk_at dksX52_init_0 12 rfl rfl)
theorem dX52_init_13 : decode cX52_init 13 = .ok (.bipush 6, 2) := dk_16 6 (dk_at dksX52_init_0 13 rfl rfl)
theorem dX52_init_15 : decode cX52_init 15 = .ok (.newarray .int, 2) := dk_188_10 (dk_at dksX52_init_0 15 rfl rfl)
theorem dX52_init_17 : decode cX52_init 17 = .ok (.putfield 13, 3) := dk_181 0 13 (dk_at dksX52_init_0 17 rfl rfl)
theorem dX52_init_20 : decode cX52_init 20 = .ok (.aload_n 0, 1) := dk_42 (dk_at dksX52_init_0 20 rfl rfl)
theorem dX52_init_21 : decode cX52_init 21 = .ok (.bipush 49, 2) := dk_16 49 (dk_at dksX52_init_0 21 rfl rfl)
theorem dX52_init_23 : decode cX52_init 23 = .ok (.newarray .int, 2) := dk_188_10 (dk_at dksX52_init_1 0 rfl rfl)
theorem dX52_init_25 : decode cX52_init 25 = .ok (.putfield 16, 3) := dk_181 0 16 (dk_at dksX52_init_1 2 rfl rfl)
theorem dX52_init_28 : decode cX52_init 28 = .ok (.aload_n 0, 1) := dk_42 (dk_at dksX52_init_1 5 rfl rfl)
theorem dX52_init_29 : decode cX52_init 29 = .ok (.bipush 49, 2) := dk_16 49 (dk_at dksX52_init_1 6 rfl rfl)
theorem dX52_init_31 : decode cX52_init 31 = .ok (.newarray .int, 2) := dk_188_10 (dk_at dksX52_init_1 8 rfl rfl)
theorem dX52_init_33 : decode cX52_init 33 = .ok (.putfield 19, 3) := dk_181 0 19 (dk_at dksX52_init_1 10 rfl rfl)
theorem dX52_init_36 : decode cX52_init 36 = .ok (.aload_n 0, 1) := dk_42 (dk_at dksX52_init_1 13 rfl rfl)
theorem dX52_init_37 : decode cX52_init 37 = .ok (.bipush 36, 2) := dk_16 36 (dk_at dksX52_init_1 14 rfl rfl)
theorem dX52_init_39 : decode cX52_init 39 = .ok (.newarray .int, 2) := dk_188_10 (dk_at dksX52_init_1 16 rfl rfl)
theorem dX52_init_41 : decode cX52_init 41 = .ok (.putfield 22, 3) := dk_181 0 22 (dk_at dksX52_init_1 18 rfl rfl)
theorem dX52_init_44 : decode cX52_init 44 = .ok (.aload_n 0, 1) := dk_42 (dk_at dksX52_init_1 21 rfl rfl)
theorem dX52_init_45 : decode cX52_init 45 = .ok (.bipush 6, 2) := dk_16 6 (dk_at dksX52_init_1 22 rfl rfl)
theorem dX52_init_47 : decode cX52_init 47 = .ok (.newarray .int, 2) := dk_188_10 (dk_at dksX52_init_2 0 rfl rfl)
theorem dX52_init_49 : decode cX52_init 49 = .ok (.putfield 25, 3) := dk_181 0 25 (dk_at dksX52_init_2 2 rfl rfl)
theorem dX52_init_52 : decode cX52_init 52 = .ok (.aload_n 0, 1) := dk_42 (dk_at dksX52_init_2 5 rfl rfl)
theorem dX52_init_53 : decode cX52_init 53 = .ok (.sipush 384, 3) := dk_17 1 128 (dk_at dksX52_init_2 6 rfl rfl)
theorem dX52_init_56 : decode cX52_init 56 = .ok (.newarray .boolean, 2) := dk_188_4 (dk_at dksX52_init_2 9 rfl rfl)
theorem dX52_init_58 : decode cX52_init 58 = .ok (.putfield 28, 3) := dk_181 0 28 (dk_at dksX52_init_2 11 rfl rfl)
theorem dX52_init_61 : decode cX52_init 61 = .ok (.aload_n 0, 1) := dk_42 (dk_at dksX52_init_2 14 rfl rfl)
theorem dX52_init_62 : decode cX52_init 62 = .ok (.sipush 384, 3) := dk_17 1 128 (dk_at dksX52_init_2 15 rfl rfl)
theorem dX52_init_65 : decode cX52_init 65 = .ok (.newarray .boolean, 2) := dk_188_4 (dk_at dksX52_init_2 18 rfl rfl)
theorem dX52_init_67 : decode cX52_init 67 = .ok (.putfield 32, 3) := dk_181 0 32 (dk_at dksX52_init_2 20 rfl rfl)
theorem dX52_init_70 : decode cX52_init 70 = .ok (.aload_n 0, 1) := dk_42 (dk_at dksX52_init_2 23 rfl rfl)
theorem dX52_init_71 : decode cX52_init 71 = .ok (.bipush 64, 2) := dk_16 64 (dk_at dksX52_init_3 0 rfl rfl)
theorem dX52_init_73 : decode cX52_init 73 = .ok (.newarray .int, 2) := dk_188_10 (dk_at dksX52_init_3 2 rfl rfl)
theorem dX52_init_75 : decode cX52_init 75 = .ok (.putfield 35, 3) := dk_181 0 35 (dk_at dksX52_init_3 4 rfl rfl)
theorem dX52_init_78 : decode cX52_init 78 = .ok (.aload_n 0, 1) := dk_42 (dk_at dksX52_init_3 7 rfl rfl)
theorem dX52_init_79 : decode cX52_init 79 = .ok (.sipush 384, 3) := dk_17 1 128 (dk_at dksX52_init_3 8 rfl rfl)
theorem dX52_init_82 : decode cX52_init 82 = .ok (.newarray .int, 2) := dk_188_10 (dk_at dksX52_init_3 11 rfl rfl)
theorem dX52_init_84 : decode cX52_init 84 = .ok (.putfield 38, 3) := dk_181 0 38 (dk_at dksX52_init_3 13 rfl rfl)
theorem dX52_init_87 : decode cX52_init 87 = .ok (.aload_n 0, 1) := dk_42 (dk_at dksX52_init_3 16 rfl rfl)
theorem dX52_init_88 : decode cX52_init 88 = .ok (.bipush 64, 2) := dk_16 64 (dk_at dksX52_init_3 17 rfl rfl)
theorem dX52_init_90 : decode cX52_init 90 = .ok (.newarray .boolean, 2) := dk_188_4 (dk_at dksX52_init_3 19 rfl rfl)
theorem dX52_init_92 : decode cX52_init 92 = .ok (.putfield 41, 3) := dk_181 0 41 (dk_at dksX52_init_3 21 rfl rfl)
theorem dX52_init_95 : decode cX52_init 95 = .ok (.aload_n 0, 1) := dk_42 (dk_at dksX52_init_4 0 rfl rfl)
theorem dX52_init_96 : decode cX52_init 96 = .ok (.bipush 6, 2) := dk_16 6 (dk_at dksX52_init_4 1 rfl rfl)
theorem dX52_init_98 : decode cX52_init 98 = .ok (.newarray .int, 2) := dk_188_10 (dk_at dksX52_init_4 3 rfl rfl)
theorem dX52_init_100 : decode cX52_init 100 = .ok (.putfield 44, 3) := dk_181 0 44 (dk_at dksX52_init_4 5 rfl rfl)
theorem dX52_init_103 : decode cX52_init 103 = .ok (.aload_n 0, 1) := dk_42 (dk_at dksX52_init_4 8 rfl rfl)
theorem dX52_init_104 : decode cX52_init 104 = .ok (.sipush 384, 3) := dk_17 1 128 (dk_at dksX52_init_4 9 rfl rfl)
theorem dX52_init_107 : decode cX52_init 107 = .ok (.newarray .boolean, 2) := dk_188_4 (dk_at dksX52_init_4 12 rfl rfl)
theorem dX52_init_109 : decode cX52_init 109 = .ok (.putfield 47, 3) := dk_181 0 47 (dk_at dksX52_init_4 14 rfl rfl)
theorem dX52_init_112 : decode cX52_init 112 = .ok (.aload_n 0, 1) := dk_42 (dk_at dksX52_init_4 17 rfl rfl)
theorem dX52_init_113 : decode cX52_init 113 = .ok (.sipush 384, 3) := dk_17 1 128 (dk_at dksX52_init_4 18 rfl rfl)
theorem dX52_init_116 : decode cX52_init 116 = .ok (.newarray .boolean, 2) := dk_188_4 (dk_at dksX52_init_4 21 rfl rfl)
theorem dX52_init_118 : decode cX52_init 118 = .ok (.putfield 50, 3) := dk_181 0 50 (dk_at dksX52_init_5 0 rfl rfl)
theorem dX52_init_121 : decode cX52_init 121 = .ok (.aload_n 0, 1) := dk_42 (dk_at dksX52_init_5 3 rfl rfl)
theorem dX52_init_122 : decode cX52_init 122 = .ok (.bipush 64, 2) := dk_16 64 (dk_at dksX52_init_5 4 rfl rfl)
theorem dX52_init_124 : decode cX52_init 124 = .ok (.newarray .int, 2) := dk_188_10 (dk_at dksX52_init_5 6 rfl rfl)
theorem dX52_init_126 : decode cX52_init 126 = .ok (.putfield 53, 3) := dk_181 0 53 (dk_at dksX52_init_5 8 rfl rfl)
theorem dX52_init_129 : decode cX52_init 129 = .ok (.aload_n 0, 1) := dk_42 (dk_at dksX52_init_5 11 rfl rfl)
theorem dX52_init_130 : decode cX52_init 130 = .ok (.sipush 384, 3) := dk_17 1 128 (dk_at dksX52_init_5 12 rfl rfl)
theorem dX52_init_133 : decode cX52_init 133 = .ok (.newarray .int, 2) := dk_188_10 (dk_at dksX52_init_5 15 rfl rfl)
theorem dX52_init_135 : decode cX52_init 135 = .ok (.putfield 56, 3) := dk_181 0 56 (dk_at dksX52_init_5 17 rfl rfl)
theorem dX52_init_138 : decode cX52_init 138 = .ok (.aload_n 0, 1) := dk_42 (dk_at dksX52_init_5 20 rfl rfl)
theorem dX52_init_139 : decode cX52_init 139 = .ok (.sipush 576, 3) := dk_17 2 64 (dk_at dksX52_init_5 21 rfl rfl)
theorem dX52_init_142 : decode cX52_init 142 = .ok (.newarray .long, 2) := dk_188_11 (dk_at dksX52_init_6 0 rfl rfl)
theorem dX52_init_144 : decode cX52_init 144 = .ok (.putfield 59, 3) := dk_181 0 59 (dk_at dksX52_init_6 2 rfl rfl)
theorem dX52_init_147 : decode cX52_init 147 = .ok (.aload_n 0, 1) := dk_42 (dk_at dksX52_init_6 5 rfl rfl)
theorem dX52_init_148 : decode cX52_init 148 = .ok (.sipush 576, 3) := dk_17 2 64 (dk_at dksX52_init_6 6 rfl rfl)
theorem dX52_init_151 : decode cX52_init 151 = .ok (.newarray .long, 2) := dk_188_11 (dk_at dksX52_init_6 9 rfl rfl)
theorem dX52_init_153 : decode cX52_init 153 = .ok (.putfield 63, 3) := dk_181 0 63 (dk_at dksX52_init_6 11 rfl rfl)
theorem dX52_init_156 : decode cX52_init 156 = .ok (.aload_n 0, 1) := dk_42 (dk_at dksX52_init_6 14 rfl rfl)
theorem dX52_init_157 : decode cX52_init 157 = .ok (.bipush 7, 2) := dk_16 7 (dk_at dksX52_init_6 15 rfl rfl)
theorem dX52_init_159 : decode cX52_init 159 = .ok (.newarray .int, 2) := dk_188_10 (dk_at dksX52_init_6 17 rfl rfl)
theorem dX52_init_161 : decode cX52_init 161 = .ok (.putfield 66, 3) := dk_181 0 66 (dk_at dksX52_init_6 19 rfl rfl)
theorem dX52_init_164 : decode cX52_init 164 = .ok (.aload_n 0, 1) := dk_42 (dk_at dksX52_init_6 22 rfl rfl)
theorem dX52_init_165 : decode cX52_init 165 = .ok (.bipush 64, 2) := dk_16 64 (dk_at dksX52_init_7 0 rfl rfl)
theorem dX52_init_167 : decode cX52_init 167 = .ok (.newarray .boolean, 2) := dk_188_4 (dk_at dksX52_init_7 2 rfl rfl)
theorem dX52_init_169 : decode cX52_init 169 = .ok (.putfield 69, 3) := dk_181 0 69 (dk_at dksX52_init_7 4 rfl rfl)
theorem dX52_init_172 : decode cX52_init 172 = .ok (.iconst 0, 1) := dk_3 (dk_at dksX52_init_7 7 rfl rfl)
theorem dX52_init_173 : decode cX52_init 173 = .ok (.istore_n 1, 1) := dk_60 (dk_at dksX52_init_7 8 rfl rfl)
theorem dX52_init_174 : decode cX52_init 174 = .ok (.iload_n 1, 1) := dk_27 (dk_at dksX52_init_7 9 rfl rfl)
theorem dX52_init_175 : decode cX52_init 175 = .ok (.bipush 49, 2) := dk_16 49 (dk_at dksX52_init_7 10 rfl rfl)
theorem dX52_init_177 : decode cX52_init 177 = .ok (.if_icmp .ge 16, 3) := dk_162 0 16 (dk_at dksX52_init_7 12 rfl rfl)
theorem dX52_init_180 : decode cX52_init 180 = .ok (.aload_n 0, 1) := dk_42 (dk_at dksX52_init_7 15 rfl rfl)
theorem dX52_init_181 : decode cX52_init 181 = .ok (.getfield 16, 3) := dk_180 0 16 (dk_at dksX52_init_7 16 rfl rfl)
theorem dX52_init_184 : decode cX52_init 184 = .ok (.iload_n 1, 1) := dk_27 (dk_at dksX52_init_7 19 rfl rfl)
theorem dX52_init_185 : decode cX52_init 185 = .ok (.iconst (-1), 1) := dk_2 (dk_at dksX52_init_7 20 rfl rfl)
theorem dX52_init_186 : decode cX52_init 186 = .ok (.iastore, 1) := dk_79 (dk_at dksX52_init_7 21 rfl rfl)
theorem dX52_init_187 : decode cX52_init 187 = .ok (.iinc 1 1, 3) := dk_132 1 1 (dk_at dksX52_init_8 0 rfl rfl)
theorem dX52_init_190 : decode cX52_init 190 = .ok (.goto (-16), 3) := dk_167 255 240 (dk_at dksX52_init_8 3 rfl rfl)
theorem dX52_init_193 : decode cX52_init 193 = .ok (.iconst 0, 1) := dk_3 (dk_at dksX52_init_8 6 rfl rfl)
theorem dX52_init_194 : decode cX52_init 194 = .ok (.istore_n 1, 1) := dk_60 (dk_at dksX52_init_8 7 rfl rfl)
theorem dX52_init_195 : decode cX52_init 195 = .ok (.iload_n 1, 1) := dk_27 (dk_at dksX52_init_8 8 rfl rfl)
theorem dX52_init_196 : decode cX52_init 196 = .ok (.bipush 64, 2) := dk_16 64 (dk_at dksX52_init_8 9 rfl rfl)
theorem dX52_init_198 : decode cX52_init 198 = .ok (.if_icmp .ge 16, 3) := dk_162 0 16 (dk_at dksX52_init_8 11 rfl rfl)
theorem dX52_init_201 : decode cX52_init 201 = .ok (.aload_n 0, 1) := dk_42 (dk_at dksX52_init_8 14 rfl rfl)
theorem dX52_init_202 : decode cX52_init 202 = .ok (.getfield 35, 3) := dk_180 0 35 (dk_at dksX52_init_8 15 rfl rfl)
theorem dX52_init_205 : decode cX52_init 205 = .ok (.iload_n 1, 1) := dk_27 (dk_at dksX52_init_8 18 rfl rfl)
theorem dX52_init_206 : decode cX52_init 206 = .ok (.iconst (-1), 1) := dk_2 (dk_at dksX52_init_8 19 rfl rfl)
theorem dX52_init_207 : decode cX52_init 207 = .ok (.iastore, 1) := dk_79 (dk_at dksX52_init_8 20 rfl rfl)
theorem dX52_init_208 : decode cX52_init 208 = .ok (.iinc 1 1, 3) := dk_132 1 1 (dk_at dksX52_init_8 21 rfl rfl)
theorem dX52_init_211 : decode cX52_init 211 = .ok (.goto (-16), 3) := dk_167 255 240 (dk_at dksX52_init_9 0 rfl rfl)
theorem dX52_init_214 : decode cX52_init 214 = .ok (.return_, 1) := dk_177 (dk_at dksX52_init_9 3 rfl rfl)
abbrev cX52_columnSet : ByteArray := prog_63_method_34_code
def yX52_columnSet : MethodName := ⟨RX52, "columnSet", "(I)I"⟩
def dkwX52_columnSet_1 : List UInt8 := [29, 172, 132, 2, 1, 132, 3, 1, 167, 255, 228, 3, 172]
abbrev dktX52_columnSet_1 : List UInt8 := dkwX52_columnSet_1 ++ []
def dkwX52_columnSet_0 : List UInt8 := [3, 61, 4, 62, 29, 16, 64, 162, 0, 28, 42, 180, 0, 35, 29, 46, 155, 0, 13, 28, 27, 160, 0, 5]
abbrev dktX52_columnSet_0 : List UInt8 := dkwX52_columnSet_0 ++ dktX52_columnSet_1
theorem dksX52_columnSet_0 : cX52_columnSet.data.toList.drop 0 = dktX52_columnSet_0 := by decide +kernel
theorem dksX52_columnSet_1 : cX52_columnSet.data.toList.drop 24 = dktX52_columnSet_1 := dk_seg dksX52_columnSet_0 24 rfl rfl
theorem dX52_columnSet_0 : decode cX52_columnSet 0 = .ok (.iconst 0, 1) := dk_3 (dk_at dksX52_columnSet_0 0 rfl rfl)
theorem dX52_columnSet_1 : decode cX52_columnSet 1 = .ok (.istore_n 2, 1) := dk_61 (dk_at dksX52_columnSet_0 1 rfl rfl)
theorem dX52_columnSet_2 : decode cX52_columnSet 2 = .ok (.iconst 1, 1) := dk_4 (dk_at dksX52_columnSet_0 2 rfl rfl)
theorem dX52_columnSet_3 : decode cX52_columnSet 3 = .ok (.istore_n 3, 1) := dk_62 (dk_at dksX52_columnSet_0 3 rfl rfl)
theorem dX52_columnSet_4 : decode cX52_columnSet 4 = .ok (.iload_n 3, 1) := dk_29 (dk_at dksX52_columnSet_0 4 rfl rfl)
theorem dX52_columnSet_5 : decode cX52_columnSet 5 = .ok (.bipush 64, 2) := dk_16 64 (dk_at dksX52_columnSet_0 5 rfl rfl)
theorem dX52_columnSet_7 : decode cX52_columnSet 7 = .ok (.if_icmp .ge 28, 3) := dk_162 0 28 (dk_at dksX52_columnSet_0 7 rfl rfl)
theorem dX52_columnSet_10 : decode cX52_columnSet 10 = .ok (.aload_n 0, 1) := dk_42 (dk_at dksX52_columnSet_0 10 rfl rfl)
theorem dX52_columnSet_11 : decode cX52_columnSet 11 = .ok (.getfield 35, 3) := dk_180 0 35 (dk_at dksX52_columnSet_0 11 rfl rfl)
theorem dX52_columnSet_14 : decode cX52_columnSet 14 = .ok (.iload_n 3, 1) := dk_29 (dk_at dksX52_columnSet_0 14 rfl rfl)
theorem dX52_columnSet_15 : decode cX52_columnSet 15 = .ok (.iaload, 1) := dk_46 (dk_at dksX52_columnSet_0 15 rfl rfl)
theorem dX52_columnSet_16 : decode cX52_columnSet 16 = .ok (.ifCond .lt 13, 3) := dk_155 0 13 (dk_at dksX52_columnSet_0 16 rfl rfl)
theorem dX52_columnSet_19 : decode cX52_columnSet 19 = .ok (.iload_n 2, 1) := dk_28 (dk_at dksX52_columnSet_0 19 rfl rfl)
theorem dX52_columnSet_20 : decode cX52_columnSet 20 = .ok (.iload_n 1, 1) := dk_27 (dk_at dksX52_columnSet_0 20 rfl rfl)
theorem dX52_columnSet_21 : decode cX52_columnSet 21 = .ok (.if_icmp .ne 5, 3) := dk_160 0 5 (dk_at dksX52_columnSet_0 21 rfl rfl)
theorem dX52_columnSet_24 : decode cX52_columnSet 24 = .ok (.iload_n 3, 1) := dk_29 (dk_at dksX52_columnSet_1 0 rfl rfl)
theorem dX52_columnSet_25 : decode cX52_columnSet 25 = .ok (.ireturn, 1) := dk_172 (dk_at dksX52_columnSet_1 1 rfl rfl)
theorem dX52_columnSet_26 : decode cX52_columnSet 26 = .ok (.iinc 2 1, 3) := dk_132 2 1 (dk_at dksX52_columnSet_1 2 rfl rfl)
theorem dX52_columnSet_29 : decode cX52_columnSet 29 = .ok (.iinc 3 1, 3) := dk_132 3 1 (dk_at dksX52_columnSet_1 5 rfl rfl)
theorem dX52_columnSet_32 : decode cX52_columnSet 32 = .ok (.goto (-28), 3) := dk_167 255 228 (dk_at dksX52_columnSet_1 8 rfl rfl)
theorem dX52_columnSet_35 : decode cX52_columnSet 35 = .ok (.iconst 0, 1) := dk_3 (dk_at dksX52_columnSet_1 11 rfl rfl)
theorem dX52_columnSet_36 : decode cX52_columnSet 36 = .ok (.ireturn, 1) := dk_172 (dk_at dksX52_columnSet_1 12 rfl rfl)
abbrev cX52_kilogramsOf : ByteArray := prog_63_method_40_code
def yX52_kilogramsOf : MethodName := ⟨RX52, "kilogramsOf", "(I)I"⟩
def dkwX52_kilogramsOf_1 : List UInt8 := [180, 0, 25, 29, 46, 167, 0, 4, 3, 96, 61, 132, 3, 1, 167, 255, 224, 28, 172]
abbrev dktX52_kilogramsOf_1 : List UInt8 := dkwX52_kilogramsOf_1 ++ []
def dkwX52_kilogramsOf_0 : List UInt8 := [3, 61, 3, 62, 29, 42, 180, 0, 137, 162, 0, 30, 28, 27, 29, 184, 0, 116, 153, 0, 12, 42]
abbrev dktX52_kilogramsOf_0 : List UInt8 := dkwX52_kilogramsOf_0 ++ dktX52_kilogramsOf_1
theorem dksX52_kilogramsOf_0 : cX52_kilogramsOf.data.toList.drop 0 = dktX52_kilogramsOf_0 := by decide +kernel
theorem dksX52_kilogramsOf_1 : cX52_kilogramsOf.data.toList.drop 22 = dktX52_kilogramsOf_1 := dk_seg dksX52_kilogramsOf_0 22 rfl rfl
theorem dX52_kilogramsOf_0 : decode cX52_kilogramsOf 0 = .ok (.iconst 0, 1) := dk_3 (dk_at dksX52_kilogramsOf_0 0 rfl rfl)
theorem dX52_kilogramsOf_1 : decode cX52_kilogramsOf 1 = .ok (.istore_n 2, 1) := dk_61 (dk_at dksX52_kilogramsOf_0 1 rfl rfl)
theorem dX52_kilogramsOf_2 : decode cX52_kilogramsOf 2 = .ok (.iconst 0, 1) := dk_3 (dk_at dksX52_kilogramsOf_0 2 rfl rfl)
theorem dX52_kilogramsOf_3 : decode cX52_kilogramsOf 3 = .ok (.istore_n 3, 1) := dk_62 (dk_at dksX52_kilogramsOf_0 3 rfl rfl)
theorem dX52_kilogramsOf_4 : decode cX52_kilogramsOf 4 = .ok (.iload_n 3, 1) := dk_29 (dk_at dksX52_kilogramsOf_0 4 rfl rfl)
theorem dX52_kilogramsOf_5 : decode cX52_kilogramsOf 5 = .ok (.aload_n 0, 1) := dk_42 (dk_at dksX52_kilogramsOf_0 5 rfl rfl)
theorem dX52_kilogramsOf_6 : decode cX52_kilogramsOf 6 = .ok (.getfield 137, 3) := dk_180 0 137 (dk_at dksX52_kilogramsOf_0 6 rfl rfl)
theorem dX52_kilogramsOf_9 : decode cX52_kilogramsOf 9 = .ok (.if_icmp .ge 30, 3) := dk_162 0 30 (dk_at dksX52_kilogramsOf_0 9 rfl rfl)
theorem dX52_kilogramsOf_12 : decode cX52_kilogramsOf 12 = .ok (.iload_n 2, 1) := dk_28 (dk_at dksX52_kilogramsOf_0 12 rfl rfl)
theorem dX52_kilogramsOf_13 : decode cX52_kilogramsOf 13 = .ok (.iload_n 1, 1) := dk_27 (dk_at dksX52_kilogramsOf_0 13 rfl rfl)
theorem dX52_kilogramsOf_14 : decode cX52_kilogramsOf 14 = .ok (.iload_n 3, 1) := dk_29 (dk_at dksX52_kilogramsOf_0 14 rfl rfl)
theorem dX52_kilogramsOf_15 : decode cX52_kilogramsOf 15 = .ok (.invokestatic 116, 3) := dk_184 0 116 (dk_at dksX52_kilogramsOf_0 15 rfl rfl)
theorem dX52_kilogramsOf_18 : decode cX52_kilogramsOf 18 = .ok (.ifCond .eq 12, 3) := dk_153 0 12 (dk_at dksX52_kilogramsOf_0 18 rfl rfl)
theorem dX52_kilogramsOf_21 : decode cX52_kilogramsOf 21 = .ok (.aload_n 0, 1) := dk_42 (dk_at dksX52_kilogramsOf_0 21 rfl rfl)
theorem dX52_kilogramsOf_22 : decode cX52_kilogramsOf 22 = .ok (.getfield 25, 3) := dk_180 0 25 (dk_at dksX52_kilogramsOf_1 0 rfl rfl)
theorem dX52_kilogramsOf_25 : decode cX52_kilogramsOf 25 = .ok (.iload_n 3, 1) := dk_29 (dk_at dksX52_kilogramsOf_1 3 rfl rfl)
theorem dX52_kilogramsOf_26 : decode cX52_kilogramsOf 26 = .ok (.iaload, 1) := dk_46 (dk_at dksX52_kilogramsOf_1 4 rfl rfl)
theorem dX52_kilogramsOf_27 : decode cX52_kilogramsOf 27 = .ok (.goto 4, 3) := dk_167 0 4 (dk_at dksX52_kilogramsOf_1 5 rfl rfl)
theorem dX52_kilogramsOf_30 : decode cX52_kilogramsOf 30 = .ok (.iconst 0, 1) := dk_3 (dk_at dksX52_kilogramsOf_1 8 rfl rfl)
theorem dX52_kilogramsOf_31 : decode cX52_kilogramsOf 31 = .ok (.iadd, 1) := dk_96 (dk_at dksX52_kilogramsOf_1 9 rfl rfl)
theorem dX52_kilogramsOf_32 : decode cX52_kilogramsOf 32 = .ok (.istore_n 2, 1) := dk_61 (dk_at dksX52_kilogramsOf_1 10 rfl rfl)
theorem dX52_kilogramsOf_33 : decode cX52_kilogramsOf 33 = .ok (.iinc 3 1, 3) := dk_132 3 1 (dk_at dksX52_kilogramsOf_1 11 rfl rfl)
theorem dX52_kilogramsOf_36 : decode cX52_kilogramsOf 36 = .ok (.goto (-32), 3) := dk_167 255 224 (dk_at dksX52_kilogramsOf_1 14 rfl rfl)
theorem dX52_kilogramsOf_39 : decode cX52_kilogramsOf 39 = .ok (.iload_n 2, 1) := dk_28 (dk_at dksX52_kilogramsOf_1 17 rfl rfl)
theorem dX52_kilogramsOf_40 : decode cX52_kilogramsOf 40 = .ok (.ireturn, 1) := dk_172 (dk_at dksX52_kilogramsOf_1 18 rfl rfl)
abbrev cX52_has : ByteArray := prog_63_method_4_code
def yX52_has : MethodName := ⟨RX52, "has", "(II)Z"⟩
def dkwX52_has_0 : List UInt8 := [26, 27, 122, 4, 126, 4, 160, 0, 7, 4, 167, 0, 4, 3, 172]
abbrev dktX52_has_0 : List UInt8 := dkwX52_has_0 ++ []
theorem dksX52_has_0 : cX52_has.data.toList.drop 0 = dktX52_has_0 := by decide +kernel
theorem dX52_has_0 : decode cX52_has 0 = .ok (.iload_n 0, 1) := dk_26 (dk_at dksX52_has_0 0 rfl rfl)
theorem dX52_has_1 : decode cX52_has 1 = .ok (.iload_n 1, 1) := dk_27 (dk_at dksX52_has_0 1 rfl rfl)
theorem dX52_has_2 : decode cX52_has 2 = .ok (.ishr, 1) := dk_122 (dk_at dksX52_has_0 2 rfl rfl)
theorem dX52_has_3 : decode cX52_has 3 = .ok (.iconst 1, 1) := dk_4 (dk_at dksX52_has_0 3 rfl rfl)
theorem dX52_has_4 : decode cX52_has 4 = .ok (.iand, 1) := dk_126 (dk_at dksX52_has_0 4 rfl rfl)
theorem dX52_has_5 : decode cX52_has 5 = .ok (.iconst 1, 1) := dk_4 (dk_at dksX52_has_0 5 rfl rfl)
theorem dX52_has_6 : decode cX52_has 6 = .ok (.if_icmp .ne 7, 3) := dk_160 0 7 (dk_at dksX52_has_0 6 rfl rfl)
theorem dX52_has_9 : decode cX52_has 9 = .ok (.iconst 1, 1) := dk_4 (dk_at dksX52_has_0 9 rfl rfl)
theorem dX52_has_10 : decode cX52_has 10 = .ok (.goto 4, 3) := dk_167 0 4 (dk_at dksX52_has_0 10 rfl rfl)
theorem dX52_has_13 : decode cX52_has 13 = .ok (.iconst 0, 1) := dk_3 (dk_at dksX52_has_0 13 rfl rfl)
theorem dX52_has_14 : decode cX52_has 14 = .ok (.ireturn, 1) := dk_172 (dk_at dksX52_has_0 14 rfl rfl)
abbrev cX52_bin : ByteArray := prog_63_method_5_code
def yX52_bin : MethodName := ⟨RX52, "bin", "(JI)I"⟩
def dkwX52_bin_3 : List UInt8 := [4, 100, 172]
abbrev dktX52_bin_3 : List UInt8 := dkwX52_bin_3 ++ []
def dkwX52_bin_2 : List UInt8 := [42, 180, 0, 13, 42, 180, 0, 76, 29, 79, 42, 89, 180, 0, 76, 4, 96, 181, 0, 76, 42, 180, 0, 76]
abbrev dktX52_bin_2 : List UInt8 := dkwX52_bin_2 ++ dktX52_bin_3
def dkwX52_bin_1 : List UInt8 := [29, 133, 20, 0, 79, 184, 0, 81, 154, 0, 5, 2, 172, 42, 180, 0, 7, 42, 180, 0, 76, 31, 136, 79]
abbrev dktX52_bin_1 : List UInt8 := dkwX52_bin_1 ++ dktX52_bin_2
def dkwX52_bin_0 : List UInt8 := [42, 3, 181, 0, 72, 42, 180, 0, 76, 16, 6, 159, 0, 24, 31, 20, 0, 79, 184, 0, 81, 153, 0, 14]
abbrev dktX52_bin_0 : List UInt8 := dkwX52_bin_0 ++ dktX52_bin_1
theorem dksX52_bin_0 : cX52_bin.data.toList.drop 0 = dktX52_bin_0 := by decide +kernel
theorem dksX52_bin_1 : cX52_bin.data.toList.drop 24 = dktX52_bin_1 := dk_seg dksX52_bin_0 24 rfl rfl
theorem dksX52_bin_2 : cX52_bin.data.toList.drop 48 = dktX52_bin_2 := dk_seg dksX52_bin_1 24 rfl rfl
theorem dksX52_bin_3 : cX52_bin.data.toList.drop 72 = dktX52_bin_3 := dk_seg dksX52_bin_2 24 rfl rfl
theorem dX52_bin_0 : decode cX52_bin 0 = .ok (.aload_n 0, 1) := dk_42 (dk_at dksX52_bin_0 0 rfl rfl)
theorem dX52_bin_1 : decode cX52_bin 1 = .ok (.iconst 0, 1) := dk_3 (dk_at dksX52_bin_0 1 rfl rfl)
theorem dX52_bin_2 : decode cX52_bin 2 = .ok (.putfield 72, 3) := dk_181 0 72 (dk_at dksX52_bin_0 2 rfl rfl)
theorem dX52_bin_5 : decode cX52_bin 5 = .ok (.aload_n 0, 1) := dk_42 (dk_at dksX52_bin_0 5 rfl rfl)
theorem dX52_bin_6 : decode cX52_bin 6 = .ok (.getfield 76, 3) := dk_180 0 76 (dk_at dksX52_bin_0 6 rfl rfl)
theorem dX52_bin_9 : decode cX52_bin 9 = .ok (.bipush 6, 2) := dk_16 6 (dk_at dksX52_bin_0 9 rfl rfl)
theorem dX52_bin_11 : decode cX52_bin 11 = .ok (.if_icmp .eq 24, 3) := dk_159 0 24 (dk_at dksX52_bin_0 11 rfl rfl)
theorem dX52_bin_14 : decode cX52_bin 14 = .ok (.lload_n 1, 1) := dk_31 (dk_at dksX52_bin_0 14 rfl rfl)
theorem dX52_bin_15 : decode cX52_bin 15 = .ok (.ldc2_w 79, 3) := dk_20 0 79 (dk_at dksX52_bin_0 15 rfl rfl)
theorem dX52_bin_18 : decode cX52_bin 18 = .ok (.invokestatic 81, 3) := dk_184 0 81 (dk_at dksX52_bin_0 18 rfl rfl)
theorem dX52_bin_21 : decode cX52_bin 21 = .ok (.ifCond .eq 14, 3) := dk_153 0 14 (dk_at dksX52_bin_0 21 rfl rfl)
theorem dX52_bin_24 : decode cX52_bin 24 = .ok (.iload_n 3, 1) := dk_29 (dk_at dksX52_bin_1 0 rfl rfl)
theorem dX52_bin_25 : decode cX52_bin 25 = .ok (.i2l, 1) := dk_133 (dk_at dksX52_bin_1 1 rfl rfl)
theorem dX52_bin_26 : decode cX52_bin 26 = .ok (.ldc2_w 79, 3) := dk_20 0 79 (dk_at dksX52_bin_1 2 rfl rfl)
theorem dX52_bin_29 : decode cX52_bin 29 = .ok (.invokestatic 81, 3) := dk_184 0 81 (dk_at dksX52_bin_1 5 rfl rfl)
theorem dX52_bin_32 : decode cX52_bin 32 = .ok (.ifCond .ne 5, 3) := dk_154 0 5 (dk_at dksX52_bin_1 8 rfl rfl)
theorem dX52_bin_35 : decode cX52_bin 35 = .ok (.iconst (-1), 1) := dk_2 (dk_at dksX52_bin_1 11 rfl rfl)
theorem dX52_bin_36 : decode cX52_bin 36 = .ok (.ireturn, 1) := dk_172 (dk_at dksX52_bin_1 12 rfl rfl)
theorem dX52_bin_37 : decode cX52_bin 37 = .ok (.aload_n 0, 1) := dk_42 (dk_at dksX52_bin_1 13 rfl rfl)
theorem dX52_bin_38 : decode cX52_bin 38 = .ok (.getfield 7, 3) := dk_180 0 7 (dk_at dksX52_bin_1 14 rfl rfl)
theorem dX52_bin_41 : decode cX52_bin 41 = .ok (.aload_n 0, 1) := dk_42 (dk_at dksX52_bin_1 17 rfl rfl)
theorem dX52_bin_42 : decode cX52_bin 42 = .ok (.getfield 76, 3) := dk_180 0 76 (dk_at dksX52_bin_1 18 rfl rfl)
theorem dX52_bin_45 : decode cX52_bin 45 = .ok (.lload_n 1, 1) := dk_31 (dk_at dksX52_bin_1 21 rfl rfl)
theorem dX52_bin_46 : decode cX52_bin 46 = .ok (.l2i, 1) := dk_136 (dk_at dksX52_bin_1 22 rfl rfl)
theorem dX52_bin_47 : decode cX52_bin 47 = .ok (.iastore, 1) := dk_79 (dk_at dksX52_bin_1 23 rfl rfl)
theorem dX52_bin_48 : decode cX52_bin 48 = .ok (.aload_n 0, 1) := dk_42 (dk_at dksX52_bin_2 0 rfl rfl)
theorem dX52_bin_49 : decode cX52_bin 49 = .ok (.getfield 13, 3) := dk_180 0 13 (dk_at dksX52_bin_2 1 rfl rfl)
theorem dX52_bin_52 : decode cX52_bin 52 = .ok (.aload_n 0, 1) := dk_42 (dk_at dksX52_bin_2 4 rfl rfl)
theorem dX52_bin_53 : decode cX52_bin 53 = .ok (.getfield 76, 3) := dk_180 0 76 (dk_at dksX52_bin_2 5 rfl rfl)
theorem dX52_bin_56 : decode cX52_bin 56 = .ok (.iload_n 3, 1) := dk_29 (dk_at dksX52_bin_2 8 rfl rfl)
theorem dX52_bin_57 : decode cX52_bin 57 = .ok (.iastore, 1) := dk_79 (dk_at dksX52_bin_2 9 rfl rfl)
theorem dX52_bin_58 : decode cX52_bin 58 = .ok (.aload_n 0, 1) := dk_42 (dk_at dksX52_bin_2 10 rfl rfl)
theorem dX52_bin_59 : decode cX52_bin 59 = .ok (.dup, 1) := dk_89 (dk_at dksX52_bin_2 11 rfl rfl)
theorem dX52_bin_60 : decode cX52_bin 60 = .ok (.getfield 76, 3) := dk_180 0 76 (dk_at dksX52_bin_2 12 rfl rfl)
theorem dX52_bin_63 : decode cX52_bin 63 = .ok (.iconst 1, 1) := dk_4 (dk_at dksX52_bin_2 15 rfl rfl)
theorem dX52_bin_64 : decode cX52_bin 64 = .ok (.iadd, 1) := dk_96 (dk_at dksX52_bin_2 16 rfl rfl)
theorem dX52_bin_65 : decode cX52_bin 65 = .ok (.putfield 76, 3) := dk_181 0 76 (dk_at dksX52_bin_2 17 rfl rfl)
theorem dX52_bin_68 : decode cX52_bin 68 = .ok (.aload_n 0, 1) := dk_42 (dk_at dksX52_bin_2 20 rfl rfl)
theorem dX52_bin_69 : decode cX52_bin 69 = .ok (.getfield 76, 3) := dk_180 0 76 (dk_at dksX52_bin_2 21 rfl rfl)
theorem dX52_bin_72 : decode cX52_bin 72 = .ok (.iconst 1, 1) := dk_4 (dk_at dksX52_bin_3 0 rfl rfl)
theorem dX52_bin_73 : decode cX52_bin 73 = .ok (.isub, 1) := dk_100 (dk_at dksX52_bin_3 1 rfl rfl)
theorem dX52_bin_74 : decode cX52_bin 74 = .ok (.ireturn, 1) := dk_172 (dk_at dksX52_bin_3 2 rfl rfl)
abbrev cX52_isIn : ByteArray := prog_63_method_3_code
def yX52_isIn : MethodName := ⟨RX52, "isIn", "(JJ)Z"⟩
def dkwX52_isIn_0 : List UInt8 := [30, 9, 148, 155, 0, 13, 30, 32, 148, 157, 0, 7, 4, 167, 0, 4, 3, 172]
abbrev dktX52_isIn_0 : List UInt8 := dkwX52_isIn_0 ++ []
theorem dksX52_isIn_0 : cX52_isIn.data.toList.drop 0 = dktX52_isIn_0 := by decide +kernel
theorem dX52_isIn_0 : decode cX52_isIn 0 = .ok (.lload_n 0, 1) := dk_30 (dk_at dksX52_isIn_0 0 rfl rfl)
theorem dX52_isIn_1 : decode cX52_isIn 1 = .ok (.lconst 0, 1) := dk_9 (dk_at dksX52_isIn_0 1 rfl rfl)
theorem dX52_isIn_2 : decode cX52_isIn 2 = .ok (.lcmp, 1) := dk_148 (dk_at dksX52_isIn_0 2 rfl rfl)
theorem dX52_isIn_3 : decode cX52_isIn 3 = .ok (.ifCond .lt 13, 3) := dk_155 0 13 (dk_at dksX52_isIn_0 3 rfl rfl)
theorem dX52_isIn_6 : decode cX52_isIn 6 = .ok (.lload_n 0, 1) := dk_30 (dk_at dksX52_isIn_0 6 rfl rfl)
theorem dX52_isIn_7 : decode cX52_isIn 7 = .ok (.lload_n 2, 1) := dk_32 (dk_at dksX52_isIn_0 7 rfl rfl)
theorem dX52_isIn_8 : decode cX52_isIn 8 = .ok (.lcmp, 1) := dk_148 (dk_at dksX52_isIn_0 8 rfl rfl)
theorem dX52_isIn_9 : decode cX52_isIn 9 = .ok (.ifCond .gt 7, 3) := dk_157 0 7 (dk_at dksX52_isIn_0 9 rfl rfl)
theorem dX52_isIn_12 : decode cX52_isIn 12 = .ok (.iconst 1, 1) := dk_4 (dk_at dksX52_isIn_0 12 rfl rfl)
theorem dX52_isIn_13 : decode cX52_isIn 13 = .ok (.goto 4, 3) := dk_167 0 4 (dk_at dksX52_isIn_0 13 rfl rfl)
theorem dX52_isIn_16 : decode cX52_isIn 16 = .ok (.iconst 0, 1) := dk_3 (dk_at dksX52_isIn_0 16 rfl rfl)
theorem dX52_isIn_17 : decode cX52_isIn 17 = .ok (.ireturn, 1) := dk_172 (dk_at dksX52_isIn_0 17 rfl rfl)
abbrev cX52_way : ByteArray := prog_63_method_6_code
def yX52_way : MethodName := ⟨RX52, "way", "(IIIJ)Z"⟩
def dkwX52_way_3 : List UInt8 := [79, 42, 180, 0, 19, 16, 7, 27, 104, 28, 96, 22, 4, 136, 79, 4, 172]
abbrev dktX52_way_3 : List UInt8 := dkwX52_way_3 ++ []
def dkwX52_way_2 : List UInt8 := [22, 4, 20, 0, 85, 184, 0, 81, 154, 0, 5, 3, 172, 42, 180, 0, 16, 16, 7, 27, 104, 28, 96, 29]
abbrev dktX52_way_2 : List UInt8 := dkwX52_way_2 ++ dktX52_way_3
def dkwX52_way_1 : List UInt8 := [133, 184, 0, 81, 153, 0, 30, 27, 28, 159, 0, 25, 29, 133, 20, 0, 79, 184, 0, 81, 153, 0, 14]
abbrev dktX52_way_1 : List UInt8 := dkwX52_way_1 ++ dktX52_way_2
def dkwX52_way_0 : List UInt8 := [42, 3, 181, 0, 72, 27, 133, 42, 180, 0, 76, 133, 184, 0, 81, 153, 0, 43, 28, 133, 42, 180, 0, 76]
abbrev dktX52_way_0 : List UInt8 := dkwX52_way_0 ++ dktX52_way_1
theorem dksX52_way_0 : cX52_way.data.toList.drop 0 = dktX52_way_0 := by decide +kernel
theorem dksX52_way_1 : cX52_way.data.toList.drop 24 = dktX52_way_1 := dk_seg dksX52_way_0 24 rfl rfl
theorem dksX52_way_2 : cX52_way.data.toList.drop 47 = dktX52_way_2 := dk_seg dksX52_way_1 23 rfl rfl
theorem dksX52_way_3 : cX52_way.data.toList.drop 71 = dktX52_way_3 := dk_seg dksX52_way_2 24 rfl rfl
theorem dX52_way_0 : decode cX52_way 0 = .ok (.aload_n 0, 1) := dk_42 (dk_at dksX52_way_0 0 rfl rfl)
theorem dX52_way_1 : decode cX52_way 1 = .ok (.iconst 0, 1) := dk_3 (dk_at dksX52_way_0 1 rfl rfl)
theorem dX52_way_2 : decode cX52_way 2 = .ok (.putfield 72, 3) := dk_181 0 72 (dk_at dksX52_way_0 2 rfl rfl)
theorem dX52_way_5 : decode cX52_way 5 = .ok (.iload_n 1, 1) := dk_27 (dk_at dksX52_way_0 5 rfl rfl)
theorem dX52_way_6 : decode cX52_way 6 = .ok (.i2l, 1) := dk_133 (dk_at dksX52_way_0 6 rfl rfl)
theorem dX52_way_7 : decode cX52_way 7 = .ok (.aload_n 0, 1) := dk_42 (dk_at dksX52_way_0 7 rfl rfl)
theorem dX52_way_8 : decode cX52_way 8 = .ok (.getfield 76, 3) := dk_180 0 76 (dk_at dksX52_way_0 8 rfl rfl)
theorem dX52_way_11 : decode cX52_way 11 = .ok (.i2l, 1) := dk_133 (dk_at dksX52_way_0 11 rfl rfl)
theorem dX52_way_12 : decode cX52_way 12 = .ok (.invokestatic 81, 3) := dk_184 0 81 (dk_at dksX52_way_0 12 rfl rfl)
theorem dX52_way_15 : decode cX52_way 15 = .ok (.ifCond .eq 43, 3) := dk_153 0 43 (dk_at dksX52_way_0 15 rfl rfl)
theorem dX52_way_18 : decode cX52_way 18 = .ok (.iload_n 2, 1) := dk_28 (dk_at dksX52_way_0 18 rfl rfl)
theorem dX52_way_19 : decode cX52_way 19 = .ok (.i2l, 1) := dk_133 (dk_at dksX52_way_0 19 rfl rfl)
theorem dX52_way_20 : decode cX52_way 20 = .ok (.aload_n 0, 1) := dk_42 (dk_at dksX52_way_0 20 rfl rfl)
theorem dX52_way_21 : decode cX52_way 21 = .ok (.getfield 76, 3) := dk_180 0 76 (dk_at dksX52_way_0 21 rfl rfl)
theorem dX52_way_24 : decode cX52_way 24 = .ok (.i2l, 1) := dk_133 (dk_at dksX52_way_1 0 rfl rfl)
theorem dX52_way_25 : decode cX52_way 25 = .ok (.invokestatic 81, 3) := dk_184 0 81 (dk_at dksX52_way_1 1 rfl rfl)
theorem dX52_way_28 : decode cX52_way 28 = .ok (.ifCond .eq 30, 3) := dk_153 0 30 (dk_at dksX52_way_1 4 rfl rfl)
theorem dX52_way_31 : decode cX52_way 31 = .ok (.iload_n 1, 1) := dk_27 (dk_at dksX52_way_1 7 rfl rfl)
theorem dX52_way_32 : decode cX52_way 32 = .ok (.iload_n 2, 1) := dk_28 (dk_at dksX52_way_1 8 rfl rfl)
theorem dX52_way_33 : decode cX52_way 33 = .ok (.if_icmp .eq 25, 3) := dk_159 0 25 (dk_at dksX52_way_1 9 rfl rfl)
theorem dX52_way_36 : decode cX52_way 36 = .ok (.iload_n 3, 1) := dk_29 (dk_at dksX52_way_1 12 rfl rfl)
theorem dX52_way_37 : decode cX52_way 37 = .ok (.i2l, 1) := dk_133 (dk_at dksX52_way_1 13 rfl rfl)
theorem dX52_way_38 : decode cX52_way 38 = .ok (.ldc2_w 79, 3) := dk_20 0 79 (dk_at dksX52_way_1 14 rfl rfl)
theorem dX52_way_41 : decode cX52_way 41 = .ok (.invokestatic 81, 3) := dk_184 0 81 (dk_at dksX52_way_1 17 rfl rfl)
theorem dX52_way_44 : decode cX52_way 44 = .ok (.ifCond .eq 14, 3) := dk_153 0 14 (dk_at dksX52_way_1 20 rfl rfl)
theorem dX52_way_47 : decode cX52_way 47 = .ok (.lload 4, 2) := dk_22 4 (dk_at dksX52_way_2 0 rfl rfl)
theorem dX52_way_49 : decode cX52_way 49 = .ok (.ldc2_w 85, 3) := dk_20 0 85 (dk_at dksX52_way_2 2 rfl rfl)
theorem dX52_way_52 : decode cX52_way 52 = .ok (.invokestatic 81, 3) := dk_184 0 81 (dk_at dksX52_way_2 5 rfl rfl)
theorem dX52_way_55 : decode cX52_way 55 = .ok (.ifCond .ne 5, 3) := dk_154 0 5 (dk_at dksX52_way_2 8 rfl rfl)
theorem dX52_way_58 : decode cX52_way 58 = .ok (.iconst 0, 1) := dk_3 (dk_at dksX52_way_2 11 rfl rfl)
theorem dX52_way_59 : decode cX52_way 59 = .ok (.ireturn, 1) := dk_172 (dk_at dksX52_way_2 12 rfl rfl)
theorem dX52_way_60 : decode cX52_way 60 = .ok (.aload_n 0, 1) := dk_42 (dk_at dksX52_way_2 13 rfl rfl)
theorem dX52_way_61 : decode cX52_way 61 = .ok (.getfield 16, 3) := dk_180 0 16 (dk_at dksX52_way_2 14 rfl rfl)
theorem dX52_way_64 : decode cX52_way 64 = .ok (.bipush 7, 2) := dk_16 7 (dk_at dksX52_way_2 17 rfl rfl)
theorem dX52_way_66 : decode cX52_way 66 = .ok (.iload_n 1, 1) := dk_27 (dk_at dksX52_way_2 19 rfl rfl)
theorem dX52_way_67 : decode cX52_way 67 = .ok (.imul, 1) := dk_104 (dk_at dksX52_way_2 20 rfl rfl)
theorem dX52_way_68 : decode cX52_way 68 = .ok (.iload_n 2, 1) := dk_28 (dk_at dksX52_way_2 21 rfl rfl)
theorem dX52_way_69 : decode cX52_way 69 = .ok (.iadd, 1) := dk_96 (dk_at dksX52_way_2 22 rfl rfl)
theorem dX52_way_70 : decode cX52_way 70 = .ok (.iload_n 3, 1) := dk_29 (dk_at dksX52_way_2 23 rfl rfl)
theorem dX52_way_71 : decode cX52_way 71 = .ok (.iastore, 1) := dk_79 (dk_at dksX52_way_3 0 rfl rfl)
theorem dX52_way_72 : decode cX52_way 72 = .ok (.aload_n 0, 1) := dk_42 (dk_at dksX52_way_3 1 rfl rfl)
theorem dX52_way_73 : decode cX52_way 73 = .ok (.getfield 19, 3) := dk_180 0 19 (dk_at dksX52_way_3 2 rfl rfl)
theorem dX52_way_76 : decode cX52_way 76 = .ok (.bipush 7, 2) := dk_16 7 (dk_at dksX52_way_3 5 rfl rfl)
theorem dX52_way_78 : decode cX52_way 78 = .ok (.iload_n 1, 1) := dk_27 (dk_at dksX52_way_3 7 rfl rfl)
theorem dX52_way_79 : decode cX52_way 79 = .ok (.imul, 1) := dk_104 (dk_at dksX52_way_3 8 rfl rfl)
theorem dX52_way_80 : decode cX52_way 80 = .ok (.iload_n 2, 1) := dk_28 (dk_at dksX52_way_3 9 rfl rfl)
theorem dX52_way_81 : decode cX52_way 81 = .ok (.iadd, 1) := dk_96 (dk_at dksX52_way_3 10 rfl rfl)
theorem dX52_way_82 : decode cX52_way 82 = .ok (.lload 4, 2) := dk_22 4 (dk_at dksX52_way_3 11 rfl rfl)
theorem dX52_way_84 : decode cX52_way 84 = .ok (.l2i, 1) := dk_136 (dk_at dksX52_way_3 13 rfl rfl)
theorem dX52_way_85 : decode cX52_way 85 = .ok (.iastore, 1) := dk_79 (dk_at dksX52_way_3 14 rfl rfl)
theorem dX52_way_86 : decode cX52_way 86 = .ok (.iconst 1, 1) := dk_4 (dk_at dksX52_way_3 15 rfl rfl)
theorem dX52_way_87 : decode cX52_way 87 = .ok (.ireturn, 1) := dk_172 (dk_at dksX52_way_3 16 rfl rfl)
abbrev cX52_vehicle : ByteArray := prog_63_method_7_code
def yX52_vehicle : MethodName := ⟨RX52, "vehicle", "(JII)Z"⟩
def dkwX52_vehicle_2 : List UInt8 := [29, 181, 0, 96, 42, 21, 4, 181, 0, 99, 4, 172]
abbrev dktX52_vehicle_2 : List UInt8 := dkwX52_vehicle_2 ++ []
def dkwX52_vehicle_1 : List UInt8 := [153, 0, 15, 21, 4, 133, 20, 0, 91, 184, 0, 81, 154, 0, 5, 3, 172, 42, 31, 136, 181, 0, 93, 42]
abbrev dktX52_vehicle_1 : List UInt8 := dkwX52_vehicle_1 ++ dktX52_vehicle_2
def dkwX52_vehicle_0 : List UInt8 := [42, 3, 181, 0, 72, 31, 20, 0, 87, 184, 0, 81, 153, 0, 26, 29, 133, 20, 0, 89, 184, 0, 81]
abbrev dktX52_vehicle_0 : List UInt8 := dkwX52_vehicle_0 ++ dktX52_vehicle_1
theorem dksX52_vehicle_0 : cX52_vehicle.data.toList.drop 0 = dktX52_vehicle_0 := by decide +kernel
theorem dksX52_vehicle_1 : cX52_vehicle.data.toList.drop 23 = dktX52_vehicle_1 := dk_seg dksX52_vehicle_0 23 rfl rfl
theorem dksX52_vehicle_2 : cX52_vehicle.data.toList.drop 47 = dktX52_vehicle_2 := dk_seg dksX52_vehicle_1 24 rfl rfl
theorem dX52_vehicle_0 : decode cX52_vehicle 0 = .ok (.aload_n 0, 1) := dk_42 (dk_at dksX52_vehicle_0 0 rfl rfl)
theorem dX52_vehicle_1 : decode cX52_vehicle 1 = .ok (.iconst 0, 1) := dk_3 (dk_at dksX52_vehicle_0 1 rfl rfl)
theorem dX52_vehicle_2 : decode cX52_vehicle 2 = .ok (.putfield 72, 3) := dk_181 0 72 (dk_at dksX52_vehicle_0 2 rfl rfl)
theorem dX52_vehicle_5 : decode cX52_vehicle 5 = .ok (.lload_n 1, 1) := dk_31 (dk_at dksX52_vehicle_0 5 rfl rfl)
theorem dX52_vehicle_6 : decode cX52_vehicle 6 = .ok (.ldc2_w 87, 3) := dk_20 0 87 (dk_at dksX52_vehicle_0 6 rfl rfl)
theorem dX52_vehicle_9 : decode cX52_vehicle 9 = .ok (.invokestatic 81, 3) := dk_184 0 81 (dk_at dksX52_vehicle_0 9 rfl rfl)
theorem dX52_vehicle_12 : decode cX52_vehicle 12 = .ok (.ifCond .eq 26, 3) := dk_153 0 26 (dk_at dksX52_vehicle_0 12 rfl rfl)
theorem dX52_vehicle_15 : decode cX52_vehicle 15 = .ok (.iload_n 3, 1) := dk_29 (dk_at dksX52_vehicle_0 15 rfl rfl)
theorem dX52_vehicle_16 : decode cX52_vehicle 16 = .ok (.i2l, 1) := dk_133 (dk_at dksX52_vehicle_0 16 rfl rfl)
theorem dX52_vehicle_17 : decode cX52_vehicle 17 = .ok (.ldc2_w 89, 3) := dk_20 0 89 (dk_at dksX52_vehicle_0 17 rfl rfl)
theorem dX52_vehicle_20 : decode cX52_vehicle 20 = .ok (.invokestatic 81, 3) := dk_184 0 81 (dk_at dksX52_vehicle_0 20 rfl rfl)
theorem dX52_vehicle_23 : decode cX52_vehicle 23 = .ok (.ifCond .eq 15, 3) := dk_153 0 15 (dk_at dksX52_vehicle_1 0 rfl rfl)
theorem dX52_vehicle_26 : decode cX52_vehicle 26 = .ok (.iload 4, 2) := dk_21 4 (dk_at dksX52_vehicle_1 3 rfl rfl)
theorem dX52_vehicle_28 : decode cX52_vehicle 28 = .ok (.i2l, 1) := dk_133 (dk_at dksX52_vehicle_1 5 rfl rfl)
theorem dX52_vehicle_29 : decode cX52_vehicle 29 = .ok (.ldc2_w 91, 3) := dk_20 0 91 (dk_at dksX52_vehicle_1 6 rfl rfl)
theorem dX52_vehicle_32 : decode cX52_vehicle 32 = .ok (.invokestatic 81, 3) := dk_184 0 81 (dk_at dksX52_vehicle_1 9 rfl rfl)
theorem dX52_vehicle_35 : decode cX52_vehicle 35 = .ok (.ifCond .ne 5, 3) := dk_154 0 5 (dk_at dksX52_vehicle_1 12 rfl rfl)
theorem dX52_vehicle_38 : decode cX52_vehicle 38 = .ok (.iconst 0, 1) := dk_3 (dk_at dksX52_vehicle_1 15 rfl rfl)
theorem dX52_vehicle_39 : decode cX52_vehicle 39 = .ok (.ireturn, 1) := dk_172 (dk_at dksX52_vehicle_1 16 rfl rfl)
theorem dX52_vehicle_40 : decode cX52_vehicle 40 = .ok (.aload_n 0, 1) := dk_42 (dk_at dksX52_vehicle_1 17 rfl rfl)
theorem dX52_vehicle_41 : decode cX52_vehicle 41 = .ok (.lload_n 1, 1) := dk_31 (dk_at dksX52_vehicle_1 18 rfl rfl)
theorem dX52_vehicle_42 : decode cX52_vehicle 42 = .ok (.l2i, 1) := dk_136 (dk_at dksX52_vehicle_1 19 rfl rfl)
theorem dX52_vehicle_43 : decode cX52_vehicle 43 = .ok (.putfield 93, 3) := dk_181 0 93 (dk_at dksX52_vehicle_1 20 rfl rfl)
theorem dX52_vehicle_46 : decode cX52_vehicle 46 = .ok (.aload_n 0, 1) := dk_42 (dk_at dksX52_vehicle_1 23 rfl rfl)
theorem dX52_vehicle_47 : decode cX52_vehicle 47 = .ok (.iload_n 3, 1) := dk_29 (dk_at dksX52_vehicle_2 0 rfl rfl)
theorem dX52_vehicle_48 : decode cX52_vehicle 48 = .ok (.putfield 96, 3) := dk_181 0 96 (dk_at dksX52_vehicle_2 1 rfl rfl)
theorem dX52_vehicle_51 : decode cX52_vehicle 51 = .ok (.aload_n 0, 1) := dk_42 (dk_at dksX52_vehicle_2 4 rfl rfl)
theorem dX52_vehicle_52 : decode cX52_vehicle 52 = .ok (.iload 4, 2) := dk_21 4 (dk_at dksX52_vehicle_2 5 rfl rfl)
theorem dX52_vehicle_54 : decode cX52_vehicle 54 = .ok (.putfield 99, 3) := dk_181 0 99 (dk_at dksX52_vehicle_2 7 rfl rfl)
theorem dX52_vehicle_57 : decode cX52_vehicle 57 = .ok (.iconst 1, 1) := dk_4 (dk_at dksX52_vehicle_2 10 rfl rfl)
theorem dX52_vehicle_58 : decode cX52_vehicle 58 = .ok (.ireturn, 1) := dk_172 (dk_at dksX52_vehicle_2 11 rfl rfl)
abbrev cX52_branch : ByteArray := prog_63_method_8_code
def yX52_branch : MethodName := ⟨RX52, "branch", "(IIZ)Z"⟩
def dkwX52_branch_3 : List UInt8 := [27, 96, 29, 153, 0, 7, 4, 167, 0, 4, 5, 79, 4, 172]
abbrev dktX52_branch_3 : List UInt8 := dkwX52_branch_3 ++ []
def dkwX52_branch_2 : List UInt8 := [16, 6, 27, 104, 28, 96, 29, 153, 0, 7, 4, 167, 0, 4, 5, 79, 42, 180, 0, 22, 16, 6, 28, 104]
abbrev dktX52_branch_2 : List UInt8 := dkwX52_branch_2 ++ dktX52_branch_3
def dkwX52_branch_1 : List UInt8 := [180, 0, 76, 4, 100, 133, 184, 0, 81, 153, 0, 8, 27, 28, 160, 0, 5, 3, 172, 42, 180, 0, 22]
abbrev dktX52_branch_1 : List UInt8 := dkwX52_branch_1 ++ dktX52_branch_2
def dkwX52_branch_0 : List UInt8 := [42, 3, 181, 0, 72, 27, 133, 42, 180, 0, 76, 4, 100, 133, 184, 0, 81, 153, 0, 23, 28, 133, 42]
abbrev dktX52_branch_0 : List UInt8 := dkwX52_branch_0 ++ dktX52_branch_1
theorem dksX52_branch_0 : cX52_branch.data.toList.drop 0 = dktX52_branch_0 := by decide +kernel
theorem dksX52_branch_1 : cX52_branch.data.toList.drop 23 = dktX52_branch_1 := dk_seg dksX52_branch_0 23 rfl rfl
theorem dksX52_branch_2 : cX52_branch.data.toList.drop 46 = dktX52_branch_2 := dk_seg dksX52_branch_1 23 rfl rfl
theorem dksX52_branch_3 : cX52_branch.data.toList.drop 70 = dktX52_branch_3 := dk_seg dksX52_branch_2 24 rfl rfl
theorem dX52_branch_0 : decode cX52_branch 0 = .ok (.aload_n 0, 1) := dk_42 (dk_at dksX52_branch_0 0 rfl rfl)
theorem dX52_branch_1 : decode cX52_branch 1 = .ok (.iconst 0, 1) := dk_3 (dk_at dksX52_branch_0 1 rfl rfl)
theorem dX52_branch_2 : decode cX52_branch 2 = .ok (.putfield 72, 3) := dk_181 0 72 (dk_at dksX52_branch_0 2 rfl rfl)
theorem dX52_branch_5 : decode cX52_branch 5 = .ok (.iload_n 1, 1) := dk_27 (dk_at dksX52_branch_0 5 rfl rfl)
theorem dX52_branch_6 : decode cX52_branch 6 = .ok (.i2l, 1) := dk_133 (dk_at dksX52_branch_0 6 rfl rfl)
theorem dX52_branch_7 : decode cX52_branch 7 = .ok (.aload_n 0, 1) := dk_42 (dk_at dksX52_branch_0 7 rfl rfl)
theorem dX52_branch_8 : decode cX52_branch 8 = .ok (.getfield 76, 3) := dk_180 0 76 (dk_at dksX52_branch_0 8 rfl rfl)
theorem dX52_branch_11 : decode cX52_branch 11 = .ok (.iconst 1, 1) := dk_4 (dk_at dksX52_branch_0 11 rfl rfl)
theorem dX52_branch_12 : decode cX52_branch 12 = .ok (.isub, 1) := dk_100 (dk_at dksX52_branch_0 12 rfl rfl)
theorem dX52_branch_13 : decode cX52_branch 13 = .ok (.i2l, 1) := dk_133 (dk_at dksX52_branch_0 13 rfl rfl)
theorem dX52_branch_14 : decode cX52_branch 14 = .ok (.invokestatic 81, 3) := dk_184 0 81 (dk_at dksX52_branch_0 14 rfl rfl)
theorem dX52_branch_17 : decode cX52_branch 17 = .ok (.ifCond .eq 23, 3) := dk_153 0 23 (dk_at dksX52_branch_0 17 rfl rfl)
theorem dX52_branch_20 : decode cX52_branch 20 = .ok (.iload_n 2, 1) := dk_28 (dk_at dksX52_branch_0 20 rfl rfl)
theorem dX52_branch_21 : decode cX52_branch 21 = .ok (.i2l, 1) := dk_133 (dk_at dksX52_branch_0 21 rfl rfl)
theorem dX52_branch_22 : decode cX52_branch 22 = .ok (.aload_n 0, 1) := dk_42 (dk_at dksX52_branch_0 22 rfl rfl)
theorem dX52_branch_23 : decode cX52_branch 23 = .ok (.getfield 76, 3) := dk_180 0 76 (dk_at dksX52_branch_1 0 rfl rfl)
theorem dX52_branch_26 : decode cX52_branch 26 = .ok (.iconst 1, 1) := dk_4 (dk_at dksX52_branch_1 3 rfl rfl)
theorem dX52_branch_27 : decode cX52_branch 27 = .ok (.isub, 1) := dk_100 (dk_at dksX52_branch_1 4 rfl rfl)
theorem dX52_branch_28 : decode cX52_branch 28 = .ok (.i2l, 1) := dk_133 (dk_at dksX52_branch_1 5 rfl rfl)
theorem dX52_branch_29 : decode cX52_branch 29 = .ok (.invokestatic 81, 3) := dk_184 0 81 (dk_at dksX52_branch_1 6 rfl rfl)
theorem dX52_branch_32 : decode cX52_branch 32 = .ok (.ifCond .eq 8, 3) := dk_153 0 8 (dk_at dksX52_branch_1 9 rfl rfl)
theorem dX52_branch_35 : decode cX52_branch 35 = .ok (.iload_n 1, 1) := dk_27 (dk_at dksX52_branch_1 12 rfl rfl)
theorem dX52_branch_36 : decode cX52_branch 36 = .ok (.iload_n 2, 1) := dk_28 (dk_at dksX52_branch_1 13 rfl rfl)
theorem dX52_branch_37 : decode cX52_branch 37 = .ok (.if_icmp .ne 5, 3) := dk_160 0 5 (dk_at dksX52_branch_1 14 rfl rfl)
theorem dX52_branch_40 : decode cX52_branch 40 = .ok (.iconst 0, 1) := dk_3 (dk_at dksX52_branch_1 17 rfl rfl)
theorem dX52_branch_41 : decode cX52_branch 41 = .ok (.ireturn, 1) := dk_172 (dk_at dksX52_branch_1 18 rfl rfl)
theorem dX52_branch_42 : decode cX52_branch 42 = .ok (.aload_n 0, 1) := dk_42 (dk_at dksX52_branch_1 19 rfl rfl)
theorem dX52_branch_43 : decode cX52_branch 43 = .ok (.getfield 22, 3) := dk_180 0 22 (dk_at dksX52_branch_1 20 rfl rfl)
theorem dX52_branch_46 : decode cX52_branch 46 = .ok (.bipush 6, 2) := dk_16 6 (dk_at dksX52_branch_2 0 rfl rfl)
theorem dX52_branch_48 : decode cX52_branch 48 = .ok (.iload_n 1, 1) := dk_27 (dk_at dksX52_branch_2 2 rfl rfl)
theorem dX52_branch_49 : decode cX52_branch 49 = .ok (.imul, 1) := dk_104 (dk_at dksX52_branch_2 3 rfl rfl)
theorem dX52_branch_50 : decode cX52_branch 50 = .ok (.iload_n 2, 1) := dk_28 (dk_at dksX52_branch_2 4 rfl rfl)
theorem dX52_branch_51 : decode cX52_branch 51 = .ok (.iadd, 1) := dk_96 (dk_at dksX52_branch_2 5 rfl rfl)
theorem dX52_branch_52 : decode cX52_branch 52 = .ok (.iload_n 3, 1) := dk_29 (dk_at dksX52_branch_2 6 rfl rfl)
theorem dX52_branch_53 : decode cX52_branch 53 = .ok (.ifCond .eq 7, 3) := dk_153 0 7 (dk_at dksX52_branch_2 7 rfl rfl)
theorem dX52_branch_56 : decode cX52_branch 56 = .ok (.iconst 1, 1) := dk_4 (dk_at dksX52_branch_2 10 rfl rfl)
theorem dX52_branch_57 : decode cX52_branch 57 = .ok (.goto 4, 3) := dk_167 0 4 (dk_at dksX52_branch_2 11 rfl rfl)
theorem dX52_branch_60 : decode cX52_branch 60 = .ok (.iconst 2, 1) := dk_5 (dk_at dksX52_branch_2 14 rfl rfl)
theorem dX52_branch_61 : decode cX52_branch 61 = .ok (.iastore, 1) := dk_79 (dk_at dksX52_branch_2 15 rfl rfl)
theorem dX52_branch_62 : decode cX52_branch 62 = .ok (.aload_n 0, 1) := dk_42 (dk_at dksX52_branch_2 16 rfl rfl)
theorem dX52_branch_63 : decode cX52_branch 63 = .ok (.getfield 22, 3) := dk_180 0 22 (dk_at dksX52_branch_2 17 rfl rfl)
theorem dX52_branch_66 : decode cX52_branch 66 = .ok (.bipush 6, 2) := dk_16 6 (dk_at dksX52_branch_2 20 rfl rfl)
theorem dX52_branch_68 : decode cX52_branch 68 = .ok (.iload_n 2, 1) := dk_28 (dk_at dksX52_branch_2 22 rfl rfl)
theorem dX52_branch_69 : decode cX52_branch 69 = .ok (.imul, 1) := dk_104 (dk_at dksX52_branch_2 23 rfl rfl)
theorem dX52_branch_70 : decode cX52_branch 70 = .ok (.iload_n 1, 1) := dk_27 (dk_at dksX52_branch_3 0 rfl rfl)
theorem dX52_branch_71 : decode cX52_branch 71 = .ok (.iadd, 1) := dk_96 (dk_at dksX52_branch_3 1 rfl rfl)
theorem dX52_branch_72 : decode cX52_branch 72 = .ok (.iload_n 3, 1) := dk_29 (dk_at dksX52_branch_3 2 rfl rfl)
theorem dX52_branch_73 : decode cX52_branch 73 = .ok (.ifCond .eq 7, 3) := dk_153 0 7 (dk_at dksX52_branch_3 3 rfl rfl)
theorem dX52_branch_76 : decode cX52_branch 76 = .ok (.iconst 1, 1) := dk_4 (dk_at dksX52_branch_3 6 rfl rfl)
theorem dX52_branch_77 : decode cX52_branch 77 = .ok (.goto 4, 3) := dk_167 0 4 (dk_at dksX52_branch_3 7 rfl rfl)
theorem dX52_branch_80 : decode cX52_branch 80 = .ok (.iconst 2, 1) := dk_5 (dk_at dksX52_branch_3 10 rfl rfl)
theorem dX52_branch_81 : decode cX52_branch 81 = .ok (.iastore, 1) := dk_79 (dk_at dksX52_branch_3 11 rfl rfl)
theorem dX52_branch_82 : decode cX52_branch 82 = .ok (.iconst 1, 1) := dk_4 (dk_at dksX52_branch_3 12 rfl rfl)
theorem dX52_branch_83 : decode cX52_branch 83 = .ok (.ireturn, 1) := dk_172 (dk_at dksX52_branch_3 13 rfl rfl)
abbrev cX52_clear : ByteArray := prog_63_method_9_code
def yX52_clear : MethodName := ⟨RX52, "clear", "()V"⟩
def dkwX52_clear_1 : List UInt8 := [167, 255, 240, 177]
abbrev dktX52_clear_1 : List UInt8 := dkwX52_clear_1 ++ []
def dkwX52_clear_0 : List UInt8 := [42, 3, 181, 0, 72, 3, 60, 27, 16, 36, 162, 0, 16, 42, 180, 0, 22, 27, 3, 79, 132, 1, 1]
abbrev dktX52_clear_0 : List UInt8 := dkwX52_clear_0 ++ dktX52_clear_1
theorem dksX52_clear_0 : cX52_clear.data.toList.drop 0 = dktX52_clear_0 := by decide +kernel
theorem dksX52_clear_1 : cX52_clear.data.toList.drop 23 = dktX52_clear_1 := dk_seg dksX52_clear_0 23 rfl rfl
theorem dX52_clear_0 : decode cX52_clear 0 = .ok (.aload_n 0, 1) := dk_42 (dk_at dksX52_clear_0 0 rfl rfl)
theorem dX52_clear_1 : decode cX52_clear 1 = .ok (.iconst 0, 1) := dk_3 (dk_at dksX52_clear_0 1 rfl rfl)
theorem dX52_clear_2 : decode cX52_clear 2 = .ok (.putfield 72, 3) := dk_181 0 72 (dk_at dksX52_clear_0 2 rfl rfl)
theorem dX52_clear_5 : decode cX52_clear 5 = .ok (.iconst 0, 1) := dk_3 (dk_at dksX52_clear_0 5 rfl rfl)
theorem dX52_clear_6 : decode cX52_clear 6 = .ok (.istore_n 1, 1) := dk_60 (dk_at dksX52_clear_0 6 rfl rfl)
theorem dX52_clear_7 : decode cX52_clear 7 = .ok (.iload_n 1, 1) := dk_27 (dk_at dksX52_clear_0 7 rfl rfl)
theorem dX52_clear_8 : decode cX52_clear 8 = .ok (.bipush 36, 2) := dk_16 36 (dk_at dksX52_clear_0 8 rfl rfl)
theorem dX52_clear_10 : decode cX52_clear 10 = .ok (.if_icmp .ge 16, 3) := dk_162 0 16 (dk_at dksX52_clear_0 10 rfl rfl)
theorem dX52_clear_13 : decode cX52_clear 13 = .ok (.aload_n 0, 1) := dk_42 (dk_at dksX52_clear_0 13 rfl rfl)
theorem dX52_clear_14 : decode cX52_clear 14 = .ok (.getfield 22, 3) := dk_180 0 22 (dk_at dksX52_clear_0 14 rfl rfl)
theorem dX52_clear_17 : decode cX52_clear 17 = .ok (.iload_n 1, 1) := dk_27 (dk_at dksX52_clear_0 17 rfl rfl)
theorem dX52_clear_18 : decode cX52_clear 18 = .ok (.iconst 0, 1) := dk_3 (dk_at dksX52_clear_0 18 rfl rfl)
theorem dX52_clear_19 : decode cX52_clear 19 = .ok (.iastore, 1) := dk_79 (dk_at dksX52_clear_0 19 rfl rfl)
theorem dX52_clear_20 : decode cX52_clear 20 = .ok (.iinc 1 1, 3) := dk_132 1 1 (dk_at dksX52_clear_0 20 rfl rfl)
theorem dX52_clear_23 : decode cX52_clear 23 = .ok (.goto (-16), 3) := dk_167 255 240 (dk_at dksX52_clear_1 0 rfl rfl)
theorem dX52_clear_26 : decode cX52_clear 26 = .ok (.return_, 1) := dk_177 (dk_at dksX52_clear_1 3 rfl rfl)
abbrev cX52_run : ByteArray := prog_63_method_18_code
def yX52_run : MethodName := ⟨RX52, "run", "(I)I"⟩
def dkwX52_run_8 : List UInt8 := [167, 0, 4, 4, 172]
abbrev dktX52_run_8 : List UInt8 := dkwX52_run_8 ++ []
def dkwX52_run_7 : List UInt8 := [182, 0, 146, 84, 132, 3, 1, 167, 255, 224, 42, 42, 182, 0, 150, 3, 182, 0, 153, 153, 0, 7, 3]
abbrev dktX52_run_7 : List UInt8 := dkwX52_run_7 ++ dktX52_run_8
def dkwX52_run_6 : List UInt8 := [162, 0, 32, 42, 180, 0, 35, 29, 42, 180, 0, 53, 29, 46, 79, 42, 180, 0, 41, 29, 42, 29]
abbrev dktX52_run_6 : List UInt8 := dkwX52_run_6 ++ dktX52_run_7
def dkwX52_run_5 : List UInt8 := [180, 0, 38, 29, 42, 180, 0, 56, 29, 46, 79, 132, 3, 1, 167, 255, 210, 3, 62, 29, 16, 64]
abbrev dktX52_run_5 : List UInt8 := dkwX52_run_5 ++ dktX52_run_6
def dkwX52_run_4 : List UInt8 := [180, 0, 28, 29, 42, 180, 0, 47, 29, 51, 84, 42, 180, 0, 32, 29, 42, 180, 0, 50, 29, 51, 84, 42]
abbrev dktX52_run_4 : List UInt8 := dkwX52_run_4 ++ dktX52_run_5
def dkwX52_run_3 : List UInt8 := [42, 180, 0, 7, 29, 46, 79, 132, 3, 1, 167, 255, 235, 3, 62, 29, 17, 1, 128, 162, 0, 45, 42]
abbrev dktX52_run_3 : List UInt8 := dkwX52_run_3 ++ dktX52_run_4
def dkwX52_run_2 : List UInt8 := [181, 0, 140, 42, 42, 180, 0, 99, 181, 0, 143, 3, 62, 29, 16, 6, 162, 0, 21, 42, 180, 0, 25, 29]
abbrev dktX52_run_2 : List UInt8 := dkwX52_run_2 ++ dktX52_run_3
def dkwX52_run_1 : List UInt8 := [158, 0, 5, 3, 172, 42, 4, 181, 0, 133, 42, 42, 180, 0, 76, 181, 0, 137, 42, 42, 180, 0, 93]
abbrev dktX52_run_1 : List UInt8 := dkwX52_run_1 ++ dktX52_run_2
def dkwX52_run_0 : List UInt8 := [42, 182, 0, 130, 61, 42, 28, 27, 164, 0, 7, 4, 167, 0, 4, 3, 181, 0, 72, 42, 180, 0, 72]
abbrev dktX52_run_0 : List UInt8 := dkwX52_run_0 ++ dktX52_run_1
theorem dksX52_run_0 : cX52_run.data.toList.drop 0 = dktX52_run_0 := by decide +kernel
theorem dksX52_run_1 : cX52_run.data.toList.drop 23 = dktX52_run_1 := dk_seg dksX52_run_0 23 rfl rfl
theorem dksX52_run_2 : cX52_run.data.toList.drop 46 = dktX52_run_2 := dk_seg dksX52_run_1 23 rfl rfl
theorem dksX52_run_3 : cX52_run.data.toList.drop 70 = dktX52_run_3 := dk_seg dksX52_run_2 24 rfl rfl
theorem dksX52_run_4 : cX52_run.data.toList.drop 93 = dktX52_run_4 := dk_seg dksX52_run_3 23 rfl rfl
theorem dksX52_run_5 : cX52_run.data.toList.drop 117 = dktX52_run_5 := dk_seg dksX52_run_4 24 rfl rfl
theorem dksX52_run_6 : cX52_run.data.toList.drop 139 = dktX52_run_6 := dk_seg dksX52_run_5 22 rfl rfl
theorem dksX52_run_7 : cX52_run.data.toList.drop 161 = dktX52_run_7 := dk_seg dksX52_run_6 22 rfl rfl
theorem dksX52_run_8 : cX52_run.data.toList.drop 184 = dktX52_run_8 := dk_seg dksX52_run_7 23 rfl rfl
theorem dX52_run_0 : decode cX52_run 0 = .ok (.aload_n 0, 1) := dk_42 (dk_at dksX52_run_0 0 rfl rfl)
theorem dX52_run_1 : decode cX52_run 1 = .ok (.invokevirtual 130, 3) := dk_182 0 130 (dk_at dksX52_run_0 1 rfl rfl)
theorem dX52_run_4 : decode cX52_run 4 = .ok (.istore_n 2, 1) := dk_61 (dk_at dksX52_run_0 4 rfl rfl)
theorem dX52_run_5 : decode cX52_run 5 = .ok (.aload_n 0, 1) := dk_42 (dk_at dksX52_run_0 5 rfl rfl)
theorem dX52_run_6 : decode cX52_run 6 = .ok (.iload_n 2, 1) := dk_28 (dk_at dksX52_run_0 6 rfl rfl)
theorem dX52_run_7 : decode cX52_run 7 = .ok (.iload_n 1, 1) := dk_27 (dk_at dksX52_run_0 7 rfl rfl)
theorem dX52_run_8 : decode cX52_run 8 = .ok (.if_icmp .le 7, 3) := dk_164 0 7 (dk_at dksX52_run_0 8 rfl rfl)
theorem dX52_run_11 : decode cX52_run 11 = .ok (.iconst 1, 1) := dk_4 (dk_at dksX52_run_0 11 rfl rfl)
theorem dX52_run_12 : decode cX52_run 12 = .ok (.goto 4, 3) := dk_167 0 4 (dk_at dksX52_run_0 12 rfl rfl)
theorem dX52_run_15 : decode cX52_run 15 = .ok (.iconst 0, 1) := dk_3 (dk_at dksX52_run_0 15 rfl rfl)
theorem dX52_run_16 : decode cX52_run 16 = .ok (.putfield 72, 3) := dk_181 0 72 (dk_at dksX52_run_0 16 rfl rfl)
theorem dX52_run_19 : decode cX52_run 19 = .ok (.aload_n 0, 1) := dk_42 (dk_at dksX52_run_0 19 rfl rfl)
theorem dX52_run_20 : decode cX52_run 20 = .ok (.getfield 72, 3) := dk_180 0 72 (dk_at dksX52_run_0 20 rfl rfl)
theorem dX52_run_23 : decode cX52_run 23 = .ok (.ifCond .le 5, 3) := dk_158 0 5 (dk_at dksX52_run_1 0 rfl rfl)
theorem dX52_run_26 : decode cX52_run 26 = .ok (.iconst 0, 1) := dk_3 (dk_at dksX52_run_1 3 rfl rfl)
theorem dX52_run_27 : decode cX52_run 27 = .ok (.ireturn, 1) := dk_172 (dk_at dksX52_run_1 4 rfl rfl)
theorem dX52_run_28 : decode cX52_run 28 = .ok (.aload_n 0, 1) := dk_42 (dk_at dksX52_run_1 5 rfl rfl)
theorem dX52_run_29 : decode cX52_run 29 = .ok (.iconst 1, 1) := dk_4 (dk_at dksX52_run_1 6 rfl rfl)
theorem dX52_run_30 : decode cX52_run 30 = .ok (.putfield 133, 3) := dk_181 0 133 (dk_at dksX52_run_1 7 rfl rfl)
theorem dX52_run_33 : decode cX52_run 33 = .ok (.aload_n 0, 1) := dk_42 (dk_at dksX52_run_1 10 rfl rfl)
theorem dX52_run_34 : decode cX52_run 34 = .ok (.aload_n 0, 1) := dk_42 (dk_at dksX52_run_1 11 rfl rfl)
theorem dX52_run_35 : decode cX52_run 35 = .ok (.getfield 76, 3) := dk_180 0 76 (dk_at dksX52_run_1 12 rfl rfl)
theorem dX52_run_38 : decode cX52_run 38 = .ok (.putfield 137, 3) := dk_181 0 137 (dk_at dksX52_run_1 15 rfl rfl)
theorem dX52_run_41 : decode cX52_run 41 = .ok (.aload_n 0, 1) := dk_42 (dk_at dksX52_run_1 18 rfl rfl)
theorem dX52_run_42 : decode cX52_run 42 = .ok (.aload_n 0, 1) := dk_42 (dk_at dksX52_run_1 19 rfl rfl)
theorem dX52_run_43 : decode cX52_run 43 = .ok (.getfield 93, 3) := dk_180 0 93 (dk_at dksX52_run_1 20 rfl rfl)
theorem dX52_run_46 : decode cX52_run 46 = .ok (.putfield 140, 3) := dk_181 0 140 (dk_at dksX52_run_2 0 rfl rfl)
theorem dX52_run_49 : decode cX52_run 49 = .ok (.aload_n 0, 1) := dk_42 (dk_at dksX52_run_2 3 rfl rfl)
theorem dX52_run_50 : decode cX52_run 50 = .ok (.aload_n 0, 1) := dk_42 (dk_at dksX52_run_2 4 rfl rfl)
theorem dX52_run_51 : decode cX52_run 51 = .ok (.getfield 99, 3) := dk_180 0 99 (dk_at dksX52_run_2 5 rfl rfl)
theorem dX52_run_54 : decode cX52_run 54 = .ok (.putfield 143, 3) := dk_181 0 143 (dk_at dksX52_run_2 8 rfl rfl)
theorem dX52_run_57 : decode cX52_run 57 = .ok (.iconst 0, 1) := dk_3 (dk_at dksX52_run_2 11 rfl rfl)
theorem dX52_run_58 : decode cX52_run 58 = .ok (.istore_n 3, 1) := dk_62 (dk_at dksX52_run_2 12 rfl rfl)
theorem dX52_run_59 : decode cX52_run 59 = .ok (.iload_n 3, 1) := dk_29 (dk_at dksX52_run_2 13 rfl rfl)
theorem dX52_run_60 : decode cX52_run 60 = .ok (.bipush 6, 2) := dk_16 6 (dk_at dksX52_run_2 14 rfl rfl)
theorem dX52_run_62 : decode cX52_run 62 = .ok (.if_icmp .ge 21, 3) := dk_162 0 21 (dk_at dksX52_run_2 16 rfl rfl)
theorem dX52_run_65 : decode cX52_run 65 = .ok (.aload_n 0, 1) := dk_42 (dk_at dksX52_run_2 19 rfl rfl)
theorem dX52_run_66 : decode cX52_run 66 = .ok (.getfield 25, 3) := dk_180 0 25 (dk_at dksX52_run_2 20 rfl rfl)
theorem dX52_run_69 : decode cX52_run 69 = .ok (.iload_n 3, 1) := dk_29 (dk_at dksX52_run_2 23 rfl rfl)
theorem dX52_run_70 : decode cX52_run 70 = .ok (.aload_n 0, 1) := dk_42 (dk_at dksX52_run_3 0 rfl rfl)
theorem dX52_run_71 : decode cX52_run 71 = .ok (.getfield 7, 3) := dk_180 0 7 (dk_at dksX52_run_3 1 rfl rfl)
theorem dX52_run_74 : decode cX52_run 74 = .ok (.iload_n 3, 1) := dk_29 (dk_at dksX52_run_3 4 rfl rfl)
theorem dX52_run_75 : decode cX52_run 75 = .ok (.iaload, 1) := dk_46 (dk_at dksX52_run_3 5 rfl rfl)
theorem dX52_run_76 : decode cX52_run 76 = .ok (.iastore, 1) := dk_79 (dk_at dksX52_run_3 6 rfl rfl)
theorem dX52_run_77 : decode cX52_run 77 = .ok (.iinc 3 1, 3) := dk_132 3 1 (dk_at dksX52_run_3 7 rfl rfl)
theorem dX52_run_80 : decode cX52_run 80 = .ok (.goto (-21), 3) := dk_167 255 235 (dk_at dksX52_run_3 10 rfl rfl)
theorem dX52_run_83 : decode cX52_run 83 = .ok (.iconst 0, 1) := dk_3 (dk_at dksX52_run_3 13 rfl rfl)
theorem dX52_run_84 : decode cX52_run 84 = .ok (.istore_n 3, 1) := dk_62 (dk_at dksX52_run_3 14 rfl rfl)
theorem dX52_run_85 : decode cX52_run 85 = .ok (.iload_n 3, 1) := dk_29 (dk_at dksX52_run_3 15 rfl rfl)
theorem dX52_run_86 : decode cX52_run 86 = .ok (.sipush 384, 3) := dk_17 1 128 (dk_at dksX52_run_3 16 rfl rfl)
theorem dX52_run_89 : decode cX52_run 89 = .ok (.if_icmp .ge 45, 3) := dk_162 0 45 (dk_at dksX52_run_3 19 rfl rfl)
theorem dX52_run_92 : decode cX52_run 92 = .ok (.aload_n 0, 1) := dk_42 (dk_at dksX52_run_3 22 rfl rfl)
theorem dX52_run_93 : decode cX52_run 93 = .ok (.getfield 28, 3) := dk_180 0 28 (dk_at dksX52_run_4 0 rfl rfl)
theorem dX52_run_96 : decode cX52_run 96 = .ok (.iload_n 3, 1) := dk_29 (dk_at dksX52_run_4 3 rfl rfl)
theorem dX52_run_97 : decode cX52_run 97 = .ok (.aload_n 0, 1) := dk_42 (dk_at dksX52_run_4 4 rfl rfl)
theorem dX52_run_98 : decode cX52_run 98 = .ok (.getfield 47, 3) := dk_180 0 47 (dk_at dksX52_run_4 5 rfl rfl)
theorem dX52_run_101 : decode cX52_run 101 = .ok (.iload_n 3, 1) := dk_29 (dk_at dksX52_run_4 8 rfl rfl)
theorem dX52_run_102 : decode cX52_run 102 = .ok (.baload, 1) := dk_51 (dk_at dksX52_run_4 9 rfl rfl)
theorem dX52_run_103 : decode cX52_run 103 = .ok (.bastore, 1) := dk_84 (dk_at dksX52_run_4 10 rfl rfl)
theorem dX52_run_104 : decode cX52_run 104 = .ok (.aload_n 0, 1) := dk_42 (dk_at dksX52_run_4 11 rfl rfl)
theorem dX52_run_105 : decode cX52_run 105 = .ok (.getfield 32, 3) := dk_180 0 32 (dk_at dksX52_run_4 12 rfl rfl)
theorem dX52_run_108 : decode cX52_run 108 = .ok (.iload_n 3, 1) := dk_29 (dk_at dksX52_run_4 15 rfl rfl)
theorem dX52_run_109 : decode cX52_run 109 = .ok (.aload_n 0, 1) := dk_42 (dk_at dksX52_run_4 16 rfl rfl)
theorem dX52_run_110 : decode cX52_run 110 = .ok (.getfield 50, 3) := dk_180 0 50 (dk_at dksX52_run_4 17 rfl rfl)
theorem dX52_run_113 : decode cX52_run 113 = .ok (.iload_n 3, 1) := dk_29 (dk_at dksX52_run_4 20 rfl rfl)
theorem dX52_run_114 : decode cX52_run 114 = .ok (.baload, 1) := dk_51 (dk_at dksX52_run_4 21 rfl rfl)
theorem dX52_run_115 : decode cX52_run 115 = .ok (.bastore, 1) := dk_84 (dk_at dksX52_run_4 22 rfl rfl)
theorem dX52_run_116 : decode cX52_run 116 = .ok (.aload_n 0, 1) := dk_42 (dk_at dksX52_run_4 23 rfl rfl)
theorem dX52_run_117 : decode cX52_run 117 = .ok (.getfield 38, 3) := dk_180 0 38 (dk_at dksX52_run_5 0 rfl rfl)
theorem dX52_run_120 : decode cX52_run 120 = .ok (.iload_n 3, 1) := dk_29 (dk_at dksX52_run_5 3 rfl rfl)
theorem dX52_run_121 : decode cX52_run 121 = .ok (.aload_n 0, 1) := dk_42 (dk_at dksX52_run_5 4 rfl rfl)
theorem dX52_run_122 : decode cX52_run 122 = .ok (.getfield 56, 3) := dk_180 0 56 (dk_at dksX52_run_5 5 rfl rfl)
theorem dX52_run_125 : decode cX52_run 125 = .ok (.iload_n 3, 1) := dk_29 (dk_at dksX52_run_5 8 rfl rfl)
theorem dX52_run_126 : decode cX52_run 126 = .ok (.iaload, 1) := dk_46 (dk_at dksX52_run_5 9 rfl rfl)
theorem dX52_run_127 : decode cX52_run 127 = .ok (.iastore, 1) := dk_79 (dk_at dksX52_run_5 10 rfl rfl)
theorem dX52_run_128 : decode cX52_run 128 = .ok (.iinc 3 1, 3) := dk_132 3 1 (dk_at dksX52_run_5 11 rfl rfl)
theorem dX52_run_131 : decode cX52_run 131 = .ok (.goto (-46), 3) := dk_167 255 210 (dk_at dksX52_run_5 14 rfl rfl)
theorem dX52_run_134 : decode cX52_run 134 = .ok (.iconst 0, 1) := dk_3 (dk_at dksX52_run_5 17 rfl rfl)
theorem dX52_run_135 : decode cX52_run 135 = .ok (.istore_n 3, 1) := dk_62 (dk_at dksX52_run_5 18 rfl rfl)
theorem dX52_run_136 : decode cX52_run 136 = .ok (.iload_n 3, 1) := dk_29 (dk_at dksX52_run_5 19 rfl rfl)
theorem dX52_run_137 : decode cX52_run 137 = .ok (.bipush 64, 2) := dk_16 64 (dk_at dksX52_run_5 20 rfl rfl)
theorem dX52_run_139 : decode cX52_run 139 = .ok (.if_icmp .ge 32, 3) := dk_162 0 32 (dk_at dksX52_run_6 0 rfl rfl)
theorem dX52_run_142 : decode cX52_run 142 = .ok (.aload_n 0, 1) := dk_42 (dk_at dksX52_run_6 3 rfl rfl)
theorem dX52_run_143 : decode cX52_run 143 = .ok (.getfield 35, 3) := dk_180 0 35 (dk_at dksX52_run_6 4 rfl rfl)
theorem dX52_run_146 : decode cX52_run 146 = .ok (.iload_n 3, 1) := dk_29 (dk_at dksX52_run_6 7 rfl rfl)
theorem dX52_run_147 : decode cX52_run 147 = .ok (.aload_n 0, 1) := dk_42 (dk_at dksX52_run_6 8 rfl rfl)
theorem dX52_run_148 : decode cX52_run 148 = .ok (.getfield 53, 3) := dk_180 0 53 (dk_at dksX52_run_6 9 rfl rfl)
theorem dX52_run_151 : decode cX52_run 151 = .ok (.iload_n 3, 1) := dk_29 (dk_at dksX52_run_6 12 rfl rfl)
theorem dX52_run_152 : decode cX52_run 152 = .ok (.iaload, 1) := dk_46 (dk_at dksX52_run_6 13 rfl rfl)
theorem dX52_run_153 : decode cX52_run 153 = .ok (.iastore, 1) := dk_79 (dk_at dksX52_run_6 14 rfl rfl)
theorem dX52_run_154 : decode cX52_run 154 = .ok (.aload_n 0, 1) := dk_42 (dk_at dksX52_run_6 15 rfl rfl)
theorem dX52_run_155 : decode cX52_run 155 = .ok (.getfield 41, 3) := dk_180 0 41 (dk_at dksX52_run_6 16 rfl rfl)
theorem dX52_run_158 : decode cX52_run 158 = .ok (.iload_n 3, 1) := dk_29 (dk_at dksX52_run_6 19 rfl rfl)
theorem dX52_run_159 : decode cX52_run 159 = .ok (.aload_n 0, 1) := dk_42 (dk_at dksX52_run_6 20 rfl rfl)
theorem dX52_run_160 : decode cX52_run 160 = .ok (.iload_n 3, 1) := dk_29 (dk_at dksX52_run_6 21 rfl rfl)
theorem dX52_run_161 : decode cX52_run 161 = .ok (.invokevirtual 146, 3) := dk_182 0 146 (dk_at dksX52_run_7 0 rfl rfl)
theorem dX52_run_164 : decode cX52_run 164 = .ok (.bastore, 1) := dk_84 (dk_at dksX52_run_7 3 rfl rfl)
theorem dX52_run_165 : decode cX52_run 165 = .ok (.iinc 3 1, 3) := dk_132 3 1 (dk_at dksX52_run_7 4 rfl rfl)
theorem dX52_run_168 : decode cX52_run 168 = .ok (.goto (-32), 3) := dk_167 255 224 (dk_at dksX52_run_7 7 rfl rfl)
theorem dX52_run_171 : decode cX52_run 171 = .ok (.aload_n 0, 1) := dk_42 (dk_at dksX52_run_7 10 rfl rfl)
theorem dX52_run_172 : decode cX52_run 172 = .ok (.aload_n 0, 1) := dk_42 (dk_at dksX52_run_7 11 rfl rfl)
theorem dX52_run_173 : decode cX52_run 173 = .ok (.invokevirtual 150, 3) := dk_182 0 150 (dk_at dksX52_run_7 12 rfl rfl)
theorem dX52_run_176 : decode cX52_run 176 = .ok (.iconst 0, 1) := dk_3 (dk_at dksX52_run_7 15 rfl rfl)
theorem dX52_run_177 : decode cX52_run 177 = .ok (.invokevirtual 153, 3) := dk_182 0 153 (dk_at dksX52_run_7 16 rfl rfl)
theorem dX52_run_180 : decode cX52_run 180 = .ok (.ifCond .eq 7, 3) := dk_153 0 7 (dk_at dksX52_run_7 19 rfl rfl)
theorem dX52_run_183 : decode cX52_run 183 = .ok (.iconst 0, 1) := dk_3 (dk_at dksX52_run_7 22 rfl rfl)
theorem dX52_run_184 : decode cX52_run 184 = .ok (.goto 4, 3) := dk_167 0 4 (dk_at dksX52_run_8 0 rfl rfl)
theorem dX52_run_187 : decode cX52_run 187 = .ok (.iconst 1, 1) := dk_4 (dk_at dksX52_run_8 3 rfl rfl)
theorem dX52_run_188 : decode cX52_run 188 = .ok (.ireturn, 1) := dk_172 (dk_at dksX52_run_8 4 rfl rfl)
abbrev cX52_search : ByteArray := prog_63_method_16_code
def yX52_search : MethodName := ⟨RX52, "search", "()I"⟩
def dkwX52_search_9 : List UInt8 := [167, 0, 4, 2, 79, 132, 6, 1, 167, 255, 213, 42, 29, 182, 0, 120, 61, 167, 255, 87, 27, 172]
abbrev dktX52_search_9 : List UInt8 := dkwX52_search_9 ++ []
def dkwX52_search_8 : List UInt8 := [16, 6, 21, 4, 104, 21, 6, 96, 21, 6, 42, 180, 0, 102, 162, 0, 13, 42, 180, 0, 44, 21, 6, 46]
abbrev dktX52_search_8 : List UInt8 := dkwX52_search_8 ++ dktX52_search_9
def dkwX52_search_7 : List UInt8 := [180, 0, 53, 21, 4, 42, 182, 0, 127, 79, 3, 54, 6, 21, 6, 16, 6, 162, 0, 42, 42, 180, 0, 56]
abbrev dktX52_search_7 : List UInt8 := dkwX52_search_7 ++ dktX52_search_8
def dkwX52_search_6 : List UInt8 := [180, 0, 53, 21, 4, 46, 155, 0, 17, 42, 182, 0, 127, 42, 180, 0, 53, 21, 4, 46, 162, 0, 63, 42]
abbrev dktX52_search_6 : List UInt8 := dkwX52_search_6 ++ dktX52_search_7
def dkwX52_search_5 : List UInt8 := [42, 180, 0, 47, 21, 5, 4, 84, 42, 182, 0, 124, 153, 0, 95, 42, 180, 0, 50, 21, 5, 4, 84, 42]
abbrev dktX52_search_5 : List UInt8 := dkwX52_search_5 ++ dktX52_search_6
def dkwX52_search_4 : List UInt8 := [4, 100, 46, 96, 54, 5, 27, 42, 180, 0, 47, 21, 5, 51, 153, 0, 7, 3, 167, 0, 4, 4, 96, 60]
abbrev dktX52_search_4 : List UInt8 := dkwX52_search_4 ++ dktX52_search_5
def dkwX52_search_3 : List UInt8 := [62, 29, 153, 0, 153, 42, 182, 0, 113, 54, 4, 16, 6, 21, 4, 104, 42, 180, 0, 44, 42, 180, 0, 102]
abbrev dktX52_search_3 : List UInt8 := dkwX52_search_3 ++ dktX52_search_4
def dkwX52_search_2 : List UInt8 := [167, 255, 240, 3, 60, 42, 3, 181, 0, 102, 42, 4, 182, 0, 120, 61, 28, 153, 0, 171, 42, 182, 0, 109]
abbrev dktX52_search_2 : List UInt8 := dkwX52_search_2 ++ dktX52_search_3
def dkwX52_search_1 : List UInt8 := [132, 1, 1, 167, 255, 232, 3, 60, 27, 16, 64, 162, 0, 16, 42, 180, 0, 53, 27, 2, 79, 132, 1, 1]
abbrev dktX52_search_1 : List UInt8 := dkwX52_search_1 ++ dktX52_search_2
def dkwX52_search_0 : List UInt8 := [3, 60, 27, 17, 1, 128, 162, 0, 23, 42, 180, 0, 47, 27, 3, 84, 42, 180, 0, 50, 27, 3, 84]
abbrev dktX52_search_0 : List UInt8 := dkwX52_search_0 ++ dktX52_search_1
theorem dksX52_search_0 : cX52_search.data.toList.drop 0 = dktX52_search_0 := by decide +kernel
theorem dksX52_search_1 : cX52_search.data.toList.drop 23 = dktX52_search_1 := dk_seg dksX52_search_0 23 rfl rfl
theorem dksX52_search_2 : cX52_search.data.toList.drop 47 = dktX52_search_2 := dk_seg dksX52_search_1 24 rfl rfl
theorem dksX52_search_3 : cX52_search.data.toList.drop 71 = dktX52_search_3 := dk_seg dksX52_search_2 24 rfl rfl
theorem dksX52_search_4 : cX52_search.data.toList.drop 95 = dktX52_search_4 := dk_seg dksX52_search_3 24 rfl rfl
theorem dksX52_search_5 : cX52_search.data.toList.drop 119 = dktX52_search_5 := dk_seg dksX52_search_4 24 rfl rfl
theorem dksX52_search_6 : cX52_search.data.toList.drop 143 = dktX52_search_6 := dk_seg dksX52_search_5 24 rfl rfl
theorem dksX52_search_7 : cX52_search.data.toList.drop 167 = dktX52_search_7 := dk_seg dksX52_search_6 24 rfl rfl
theorem dksX52_search_8 : cX52_search.data.toList.drop 191 = dktX52_search_8 := dk_seg dksX52_search_7 24 rfl rfl
theorem dksX52_search_9 : cX52_search.data.toList.drop 215 = dktX52_search_9 := dk_seg dksX52_search_8 24 rfl rfl
theorem dX52_search_0 : decode cX52_search 0 = .ok (.iconst 0, 1) := dk_3 (dk_at dksX52_search_0 0 rfl rfl)
theorem dX52_search_1 : decode cX52_search 1 = .ok (.istore_n 1, 1) := dk_60 (dk_at dksX52_search_0 1 rfl rfl)
theorem dX52_search_2 : decode cX52_search 2 = .ok (.iload_n 1, 1) := dk_27 (dk_at dksX52_search_0 2 rfl rfl)
theorem dX52_search_3 : decode cX52_search 3 = .ok (.sipush 384, 3) := dk_17 1 128 (dk_at dksX52_search_0 3 rfl rfl)
theorem dX52_search_6 : decode cX52_search 6 = .ok (.if_icmp .ge 23, 3) := dk_162 0 23 (dk_at dksX52_search_0 6 rfl rfl)
theorem dX52_search_9 : decode cX52_search 9 = .ok (.aload_n 0, 1) := dk_42 (dk_at dksX52_search_0 9 rfl rfl)
theorem dX52_search_10 : decode cX52_search 10 = .ok (.getfield 47, 3) := dk_180 0 47 (dk_at dksX52_search_0 10 rfl rfl)
theorem dX52_search_13 : decode cX52_search 13 = .ok (.iload_n 1, 1) := dk_27 (dk_at dksX52_search_0 13 rfl rfl)
theorem dX52_search_14 : decode cX52_search 14 = .ok (.iconst 0, 1) := dk_3 (dk_at dksX52_search_0 14 rfl rfl)
theorem dX52_search_15 : decode cX52_search 15 = .ok (.bastore, 1) := dk_84 (dk_at dksX52_search_0 15 rfl rfl)
theorem dX52_search_16 : decode cX52_search 16 = .ok (.aload_n 0, 1) := dk_42 (dk_at dksX52_search_0 16 rfl rfl)
theorem dX52_search_17 : decode cX52_search 17 = .ok (.getfield 50, 3) := dk_180 0 50 (dk_at dksX52_search_0 17 rfl rfl)
theorem dX52_search_20 : decode cX52_search 20 = .ok (.iload_n 1, 1) := dk_27 (dk_at dksX52_search_0 20 rfl rfl)
theorem dX52_search_21 : decode cX52_search 21 = .ok (.iconst 0, 1) := dk_3 (dk_at dksX52_search_0 21 rfl rfl)
theorem dX52_search_22 : decode cX52_search 22 = .ok (.bastore, 1) := dk_84 (dk_at dksX52_search_0 22 rfl rfl)
theorem dX52_search_23 : decode cX52_search 23 = .ok (.iinc 1 1, 3) := dk_132 1 1 (dk_at dksX52_search_1 0 rfl rfl)
theorem dX52_search_26 : decode cX52_search 26 = .ok (.goto (-24), 3) := dk_167 255 232 (dk_at dksX52_search_1 3 rfl rfl)
theorem dX52_search_29 : decode cX52_search 29 = .ok (.iconst 0, 1) := dk_3 (dk_at dksX52_search_1 6 rfl rfl)
theorem dX52_search_30 : decode cX52_search 30 = .ok (.istore_n 1, 1) := dk_60 (dk_at dksX52_search_1 7 rfl rfl)
theorem dX52_search_31 : decode cX52_search 31 = .ok (.iload_n 1, 1) := dk_27 (dk_at dksX52_search_1 8 rfl rfl)
theorem dX52_search_32 : decode cX52_search 32 = .ok (.bipush 64, 2) := dk_16 64 (dk_at dksX52_search_1 9 rfl rfl)
theorem dX52_search_34 : decode cX52_search 34 = .ok (.if_icmp .ge 16, 3) := dk_162 0 16 (dk_at dksX52_search_1 11 rfl rfl)
theorem dX52_search_37 : decode cX52_search 37 = .ok (.aload_n 0, 1) := dk_42 (dk_at dksX52_search_1 14 rfl rfl)
theorem dX52_search_38 : decode cX52_search 38 = .ok (.getfield 53, 3) := dk_180 0 53 (dk_at dksX52_search_1 15 rfl rfl)
theorem dX52_search_41 : decode cX52_search 41 = .ok (.iload_n 1, 1) := dk_27 (dk_at dksX52_search_1 18 rfl rfl)
theorem dX52_search_42 : decode cX52_search 42 = .ok (.iconst (-1), 1) := dk_2 (dk_at dksX52_search_1 19 rfl rfl)
theorem dX52_search_43 : decode cX52_search 43 = .ok (.iastore, 1) := dk_79 (dk_at dksX52_search_1 20 rfl rfl)
theorem dX52_search_44 : decode cX52_search 44 = .ok (.iinc 1 1, 3) := dk_132 1 1 (dk_at dksX52_search_1 21 rfl rfl)
theorem dX52_search_47 : decode cX52_search 47 = .ok (.goto (-16), 3) := dk_167 255 240 (dk_at dksX52_search_2 0 rfl rfl)
theorem dX52_search_50 : decode cX52_search 50 = .ok (.iconst 0, 1) := dk_3 (dk_at dksX52_search_2 3 rfl rfl)
theorem dX52_search_51 : decode cX52_search 51 = .ok (.istore_n 1, 1) := dk_60 (dk_at dksX52_search_2 4 rfl rfl)
theorem dX52_search_52 : decode cX52_search 52 = .ok (.aload_n 0, 1) := dk_42 (dk_at dksX52_search_2 5 rfl rfl)
theorem dX52_search_53 : decode cX52_search 53 = .ok (.iconst 0, 1) := dk_3 (dk_at dksX52_search_2 6 rfl rfl)
theorem dX52_search_54 : decode cX52_search 54 = .ok (.putfield 102, 3) := dk_181 0 102 (dk_at dksX52_search_2 7 rfl rfl)
theorem dX52_search_57 : decode cX52_search 57 = .ok (.aload_n 0, 1) := dk_42 (dk_at dksX52_search_2 10 rfl rfl)
theorem dX52_search_58 : decode cX52_search 58 = .ok (.iconst 1, 1) := dk_4 (dk_at dksX52_search_2 11 rfl rfl)
theorem dX52_search_59 : decode cX52_search 59 = .ok (.invokevirtual 120, 3) := dk_182 0 120 (dk_at dksX52_search_2 12 rfl rfl)
theorem dX52_search_62 : decode cX52_search 62 = .ok (.istore_n 2, 1) := dk_61 (dk_at dksX52_search_2 15 rfl rfl)
theorem dX52_search_63 : decode cX52_search 63 = .ok (.iload_n 2, 1) := dk_28 (dk_at dksX52_search_2 16 rfl rfl)
theorem dX52_search_64 : decode cX52_search 64 = .ok (.ifCond .eq 171, 3) := dk_153 0 171 (dk_at dksX52_search_2 17 rfl rfl)
theorem dX52_search_67 : decode cX52_search 67 = .ok (.aload_n 0, 1) := dk_42 (dk_at dksX52_search_2 20 rfl rfl)
theorem dX52_search_68 : decode cX52_search 68 = .ok (.invokevirtual 109, 3) := dk_182 0 109 (dk_at dksX52_search_2 21 rfl rfl)
theorem dX52_search_71 : decode cX52_search 71 = .ok (.istore_n 3, 1) := dk_62 (dk_at dksX52_search_3 0 rfl rfl)
theorem dX52_search_72 : decode cX52_search 72 = .ok (.iload_n 3, 1) := dk_29 (dk_at dksX52_search_3 1 rfl rfl)
theorem dX52_search_73 : decode cX52_search 73 = .ok (.ifCond .eq 153, 3) := dk_153 0 153 (dk_at dksX52_search_3 2 rfl rfl)
theorem dX52_search_76 : decode cX52_search 76 = .ok (.aload_n 0, 1) := dk_42 (dk_at dksX52_search_3 5 rfl rfl)
theorem dX52_search_77 : decode cX52_search 77 = .ok (.invokevirtual 113, 3) := dk_182 0 113 (dk_at dksX52_search_3 6 rfl rfl)
theorem dX52_search_80 : decode cX52_search 80 = .ok (.istore 4, 2) := dk_54 4 (dk_at dksX52_search_3 9 rfl rfl)
theorem dX52_search_82 : decode cX52_search 82 = .ok (.bipush 6, 2) := dk_16 6 (dk_at dksX52_search_3 11 rfl rfl)
theorem dX52_search_84 : decode cX52_search 84 = .ok (.iload 4, 2) := dk_21 4 (dk_at dksX52_search_3 13 rfl rfl)
theorem dX52_search_86 : decode cX52_search 86 = .ok (.imul, 1) := dk_104 (dk_at dksX52_search_3 15 rfl rfl)
theorem dX52_search_87 : decode cX52_search 87 = .ok (.aload_n 0, 1) := dk_42 (dk_at dksX52_search_3 16 rfl rfl)
theorem dX52_search_88 : decode cX52_search 88 = .ok (.getfield 44, 3) := dk_180 0 44 (dk_at dksX52_search_3 17 rfl rfl)
theorem dX52_search_91 : decode cX52_search 91 = .ok (.aload_n 0, 1) := dk_42 (dk_at dksX52_search_3 20 rfl rfl)
theorem dX52_search_92 : decode cX52_search 92 = .ok (.getfield 102, 3) := dk_180 0 102 (dk_at dksX52_search_3 21 rfl rfl)
theorem dX52_search_95 : decode cX52_search 95 = .ok (.iconst 1, 1) := dk_4 (dk_at dksX52_search_4 0 rfl rfl)
theorem dX52_search_96 : decode cX52_search 96 = .ok (.isub, 1) := dk_100 (dk_at dksX52_search_4 1 rfl rfl)
theorem dX52_search_97 : decode cX52_search 97 = .ok (.iaload, 1) := dk_46 (dk_at dksX52_search_4 2 rfl rfl)
theorem dX52_search_98 : decode cX52_search 98 = .ok (.iadd, 1) := dk_96 (dk_at dksX52_search_4 3 rfl rfl)
theorem dX52_search_99 : decode cX52_search 99 = .ok (.istore 5, 2) := dk_54 5 (dk_at dksX52_search_4 4 rfl rfl)
theorem dX52_search_101 : decode cX52_search 101 = .ok (.iload_n 1, 1) := dk_27 (dk_at dksX52_search_4 6 rfl rfl)
theorem dX52_search_102 : decode cX52_search 102 = .ok (.aload_n 0, 1) := dk_42 (dk_at dksX52_search_4 7 rfl rfl)
theorem dX52_search_103 : decode cX52_search 103 = .ok (.getfield 47, 3) := dk_180 0 47 (dk_at dksX52_search_4 8 rfl rfl)
theorem dX52_search_106 : decode cX52_search 106 = .ok (.iload 5, 2) := dk_21 5 (dk_at dksX52_search_4 11 rfl rfl)
theorem dX52_search_108 : decode cX52_search 108 = .ok (.baload, 1) := dk_51 (dk_at dksX52_search_4 13 rfl rfl)
theorem dX52_search_109 : decode cX52_search 109 = .ok (.ifCond .eq 7, 3) := dk_153 0 7 (dk_at dksX52_search_4 14 rfl rfl)
theorem dX52_search_112 : decode cX52_search 112 = .ok (.iconst 0, 1) := dk_3 (dk_at dksX52_search_4 17 rfl rfl)
theorem dX52_search_113 : decode cX52_search 113 = .ok (.goto 4, 3) := dk_167 0 4 (dk_at dksX52_search_4 18 rfl rfl)
theorem dX52_search_116 : decode cX52_search 116 = .ok (.iconst 1, 1) := dk_4 (dk_at dksX52_search_4 21 rfl rfl)
theorem dX52_search_117 : decode cX52_search 117 = .ok (.iadd, 1) := dk_96 (dk_at dksX52_search_4 22 rfl rfl)
theorem dX52_search_118 : decode cX52_search 118 = .ok (.istore_n 1, 1) := dk_60 (dk_at dksX52_search_4 23 rfl rfl)
theorem dX52_search_119 : decode cX52_search 119 = .ok (.aload_n 0, 1) := dk_42 (dk_at dksX52_search_5 0 rfl rfl)
theorem dX52_search_120 : decode cX52_search 120 = .ok (.getfield 47, 3) := dk_180 0 47 (dk_at dksX52_search_5 1 rfl rfl)
theorem dX52_search_123 : decode cX52_search 123 = .ok (.iload 5, 2) := dk_21 5 (dk_at dksX52_search_5 4 rfl rfl)
theorem dX52_search_125 : decode cX52_search 125 = .ok (.iconst 1, 1) := dk_4 (dk_at dksX52_search_5 6 rfl rfl)
theorem dX52_search_126 : decode cX52_search 126 = .ok (.bastore, 1) := dk_84 (dk_at dksX52_search_5 7 rfl rfl)
theorem dX52_search_127 : decode cX52_search 127 = .ok (.aload_n 0, 1) := dk_42 (dk_at dksX52_search_5 8 rfl rfl)
theorem dX52_search_128 : decode cX52_search 128 = .ok (.invokevirtual 124, 3) := dk_182 0 124 (dk_at dksX52_search_5 9 rfl rfl)
theorem dX52_search_131 : decode cX52_search 131 = .ok (.ifCond .eq 95, 3) := dk_153 0 95 (dk_at dksX52_search_5 12 rfl rfl)
theorem dX52_search_134 : decode cX52_search 134 = .ok (.aload_n 0, 1) := dk_42 (dk_at dksX52_search_5 15 rfl rfl)
theorem dX52_search_135 : decode cX52_search 135 = .ok (.getfield 50, 3) := dk_180 0 50 (dk_at dksX52_search_5 16 rfl rfl)
theorem dX52_search_138 : decode cX52_search 138 = .ok (.iload 5, 2) := dk_21 5 (dk_at dksX52_search_5 19 rfl rfl)
theorem dX52_search_140 : decode cX52_search 140 = .ok (.iconst 1, 1) := dk_4 (dk_at dksX52_search_5 21 rfl rfl)
theorem dX52_search_141 : decode cX52_search 141 = .ok (.bastore, 1) := dk_84 (dk_at dksX52_search_5 22 rfl rfl)
theorem dX52_search_142 : decode cX52_search 142 = .ok (.aload_n 0, 1) := dk_42 (dk_at dksX52_search_5 23 rfl rfl)
theorem dX52_search_143 : decode cX52_search 143 = .ok (.getfield 53, 3) := dk_180 0 53 (dk_at dksX52_search_6 0 rfl rfl)
theorem dX52_search_146 : decode cX52_search 146 = .ok (.iload 4, 2) := dk_21 4 (dk_at dksX52_search_6 3 rfl rfl)
theorem dX52_search_148 : decode cX52_search 148 = .ok (.iaload, 1) := dk_46 (dk_at dksX52_search_6 5 rfl rfl)
theorem dX52_search_149 : decode cX52_search 149 = .ok (.ifCond .lt 17, 3) := dk_155 0 17 (dk_at dksX52_search_6 6 rfl rfl)
theorem dX52_search_152 : decode cX52_search 152 = .ok (.aload_n 0, 1) := dk_42 (dk_at dksX52_search_6 9 rfl rfl)
theorem dX52_search_153 : decode cX52_search 153 = .ok (.invokevirtual 127, 3) := dk_182 0 127 (dk_at dksX52_search_6 10 rfl rfl)
theorem dX52_search_156 : decode cX52_search 156 = .ok (.aload_n 0, 1) := dk_42 (dk_at dksX52_search_6 13 rfl rfl)
theorem dX52_search_157 : decode cX52_search 157 = .ok (.getfield 53, 3) := dk_180 0 53 (dk_at dksX52_search_6 14 rfl rfl)
theorem dX52_search_160 : decode cX52_search 160 = .ok (.iload 4, 2) := dk_21 4 (dk_at dksX52_search_6 17 rfl rfl)
theorem dX52_search_162 : decode cX52_search 162 = .ok (.iaload, 1) := dk_46 (dk_at dksX52_search_6 19 rfl rfl)
theorem dX52_search_163 : decode cX52_search 163 = .ok (.if_icmp .ge 63, 3) := dk_162 0 63 (dk_at dksX52_search_6 20 rfl rfl)
theorem dX52_search_166 : decode cX52_search 166 = .ok (.aload_n 0, 1) := dk_42 (dk_at dksX52_search_6 23 rfl rfl)
theorem dX52_search_167 : decode cX52_search 167 = .ok (.getfield 53, 3) := dk_180 0 53 (dk_at dksX52_search_7 0 rfl rfl)
theorem dX52_search_170 : decode cX52_search 170 = .ok (.iload 4, 2) := dk_21 4 (dk_at dksX52_search_7 3 rfl rfl)
theorem dX52_search_172 : decode cX52_search 172 = .ok (.aload_n 0, 1) := dk_42 (dk_at dksX52_search_7 5 rfl rfl)
theorem dX52_search_173 : decode cX52_search 173 = .ok (.invokevirtual 127, 3) := dk_182 0 127 (dk_at dksX52_search_7 6 rfl rfl)
theorem dX52_search_176 : decode cX52_search 176 = .ok (.iastore, 1) := dk_79 (dk_at dksX52_search_7 9 rfl rfl)
theorem dX52_search_177 : decode cX52_search 177 = .ok (.iconst 0, 1) := dk_3 (dk_at dksX52_search_7 10 rfl rfl)
theorem dX52_search_178 : decode cX52_search 178 = .ok (.istore 6, 2) := dk_54 6 (dk_at dksX52_search_7 11 rfl rfl)
theorem dX52_search_180 : decode cX52_search 180 = .ok (.iload 6, 2) := dk_21 6 (dk_at dksX52_search_7 13 rfl rfl)
theorem dX52_search_182 : decode cX52_search 182 = .ok (.bipush 6, 2) := dk_16 6 (dk_at dksX52_search_7 15 rfl rfl)
theorem dX52_search_184 : decode cX52_search 184 = .ok (.if_icmp .ge 42, 3) := dk_162 0 42 (dk_at dksX52_search_7 17 rfl rfl)
theorem dX52_search_187 : decode cX52_search 187 = .ok (.aload_n 0, 1) := dk_42 (dk_at dksX52_search_7 20 rfl rfl)
theorem dX52_search_188 : decode cX52_search 188 = .ok (.getfield 56, 3) := dk_180 0 56 (dk_at dksX52_search_7 21 rfl rfl)
theorem dX52_search_191 : decode cX52_search 191 = .ok (.bipush 6, 2) := dk_16 6 (dk_at dksX52_search_8 0 rfl rfl)
theorem dX52_search_193 : decode cX52_search 193 = .ok (.iload 4, 2) := dk_21 4 (dk_at dksX52_search_8 2 rfl rfl)
theorem dX52_search_195 : decode cX52_search 195 = .ok (.imul, 1) := dk_104 (dk_at dksX52_search_8 4 rfl rfl)
theorem dX52_search_196 : decode cX52_search 196 = .ok (.iload 6, 2) := dk_21 6 (dk_at dksX52_search_8 5 rfl rfl)
theorem dX52_search_198 : decode cX52_search 198 = .ok (.iadd, 1) := dk_96 (dk_at dksX52_search_8 7 rfl rfl)
theorem dX52_search_199 : decode cX52_search 199 = .ok (.iload 6, 2) := dk_21 6 (dk_at dksX52_search_8 8 rfl rfl)
theorem dX52_search_201 : decode cX52_search 201 = .ok (.aload_n 0, 1) := dk_42 (dk_at dksX52_search_8 10 rfl rfl)
theorem dX52_search_202 : decode cX52_search 202 = .ok (.getfield 102, 3) := dk_180 0 102 (dk_at dksX52_search_8 11 rfl rfl)
theorem dX52_search_205 : decode cX52_search 205 = .ok (.if_icmp .ge 13, 3) := dk_162 0 13 (dk_at dksX52_search_8 14 rfl rfl)
theorem dX52_search_208 : decode cX52_search 208 = .ok (.aload_n 0, 1) := dk_42 (dk_at dksX52_search_8 17 rfl rfl)
theorem dX52_search_209 : decode cX52_search 209 = .ok (.getfield 44, 3) := dk_180 0 44 (dk_at dksX52_search_8 18 rfl rfl)
theorem dX52_search_212 : decode cX52_search 212 = .ok (.iload 6, 2) := dk_21 6 (dk_at dksX52_search_8 21 rfl rfl)
theorem dX52_search_214 : decode cX52_search 214 = .ok (.iaload, 1) := dk_46 (dk_at dksX52_search_8 23 rfl rfl)
theorem dX52_search_215 : decode cX52_search 215 = .ok (.goto 4, 3) := dk_167 0 4 (dk_at dksX52_search_9 0 rfl rfl)
theorem dX52_search_218 : decode cX52_search 218 = .ok (.iconst (-1), 1) := dk_2 (dk_at dksX52_search_9 3 rfl rfl)
theorem dX52_search_219 : decode cX52_search 219 = .ok (.iastore, 1) := dk_79 (dk_at dksX52_search_9 4 rfl rfl)
theorem dX52_search_220 : decode cX52_search 220 = .ok (.iinc 6 1, 3) := dk_132 6 1 (dk_at dksX52_search_9 5 rfl rfl)
theorem dX52_search_223 : decode cX52_search 223 = .ok (.goto (-43), 3) := dk_167 255 213 (dk_at dksX52_search_9 8 rfl rfl)
theorem dX52_search_226 : decode cX52_search 226 = .ok (.aload_n 0, 1) := dk_42 (dk_at dksX52_search_9 11 rfl rfl)
theorem dX52_search_227 : decode cX52_search 227 = .ok (.iload_n 3, 1) := dk_29 (dk_at dksX52_search_9 12 rfl rfl)
theorem dX52_search_228 : decode cX52_search 228 = .ok (.invokevirtual 120, 3) := dk_182 0 120 (dk_at dksX52_search_9 13 rfl rfl)
theorem dX52_search_231 : decode cX52_search 231 = .ok (.istore_n 2, 1) := dk_61 (dk_at dksX52_search_9 16 rfl rfl)
theorem dX52_search_232 : decode cX52_search 232 = .ok (.goto (-169), 3) := dk_167 255 87 (dk_at dksX52_search_9 17 rfl rfl)
theorem dX52_search_235 : decode cX52_search 235 = .ok (.iload_n 1, 1) := dk_27 (dk_at dksX52_search_9 20 rfl rfl)
theorem dX52_search_236 : decode cX52_search 236 = .ok (.ireturn, 1) := dk_172 (dk_at dksX52_search_9 21 rfl rfl)
abbrev cX52_next : ByteArray := prog_63_method_15_code
def yX52_next : MethodName := ⟨RX52, "next", "(Z)Z"⟩
def dkwX52_next_5 : List UInt8 := [180, 0, 102, 46, 4, 96, 61, 167, 255, 170]
abbrev dktX52_next_5 : List UInt8 := dkwX52_next_5 ++ []
def dkwX52_next_4 : List UInt8 := [180, 0, 102, 154, 0, 5, 3, 172, 42, 89, 180, 0, 102, 4, 100, 181, 0, 102, 42, 180, 0, 44, 42]
abbrev dktX52_next_4 : List UInt8 := dkwX52_next_4 ++ dktX52_next_5
def dkwX52_next_3 : List UInt8 := [21, 4, 79, 42, 89, 180, 0, 102, 4, 96, 181, 0, 102, 4, 172, 132, 4, 1, 167, 255, 212, 42]
abbrev dktX52_next_3 : List UInt8 := dkwX52_next_3 ++ dktX52_next_4
def dkwX52_next_2 : List UInt8 := [180, 0, 76, 162, 0, 41, 29, 21, 4, 184, 0, 116, 154, 0, 26, 42, 180, 0, 44, 42, 180, 0, 102]
abbrev dktX52_next_2 : List UInt8 := dkwX52_next_2 ++ dktX52_next_3
def dkwX52_next_1 : List UInt8 := [180, 0, 44, 42, 180, 0, 102, 46, 4, 96, 61, 42, 182, 0, 113, 62, 28, 54, 4, 21, 4, 42]
abbrev dktX52_next_1 : List UInt8 := dkwX52_next_1 ++ dktX52_next_2
def dkwX52_next_0 : List UInt8 := [3, 61, 27, 154, 0, 32, 42, 180, 0, 102, 158, 0, 25, 42, 89, 180, 0, 102, 4, 100, 181, 0, 102, 42]
abbrev dktX52_next_0 : List UInt8 := dkwX52_next_0 ++ dktX52_next_1
theorem dksX52_next_0 : cX52_next.data.toList.drop 0 = dktX52_next_0 := by decide +kernel
theorem dksX52_next_1 : cX52_next.data.toList.drop 24 = dktX52_next_1 := dk_seg dksX52_next_0 24 rfl rfl
theorem dksX52_next_2 : cX52_next.data.toList.drop 46 = dktX52_next_2 := dk_seg dksX52_next_1 22 rfl rfl
theorem dksX52_next_3 : cX52_next.data.toList.drop 69 = dktX52_next_3 := dk_seg dksX52_next_2 23 rfl rfl
theorem dksX52_next_4 : cX52_next.data.toList.drop 91 = dktX52_next_4 := dk_seg dksX52_next_3 22 rfl rfl
theorem dksX52_next_5 : cX52_next.data.toList.drop 114 = dktX52_next_5 := dk_seg dksX52_next_4 23 rfl rfl
theorem dX52_next_0 : decode cX52_next 0 = .ok (.iconst 0, 1) := dk_3 (dk_at dksX52_next_0 0 rfl rfl)
theorem dX52_next_1 : decode cX52_next 1 = .ok (.istore_n 2, 1) := dk_61 (dk_at dksX52_next_0 1 rfl rfl)
theorem dX52_next_2 : decode cX52_next 2 = .ok (.iload_n 1, 1) := dk_27 (dk_at dksX52_next_0 2 rfl rfl)
theorem dX52_next_3 : decode cX52_next 3 = .ok (.ifCond .ne 32, 3) := dk_154 0 32 (dk_at dksX52_next_0 3 rfl rfl)
theorem dX52_next_6 : decode cX52_next 6 = .ok (.aload_n 0, 1) := dk_42 (dk_at dksX52_next_0 6 rfl rfl)
theorem dX52_next_7 : decode cX52_next 7 = .ok (.getfield 102, 3) := dk_180 0 102 (dk_at dksX52_next_0 7 rfl rfl)
theorem dX52_next_10 : decode cX52_next 10 = .ok (.ifCond .le 25, 3) := dk_158 0 25 (dk_at dksX52_next_0 10 rfl rfl)
theorem dX52_next_13 : decode cX52_next 13 = .ok (.aload_n 0, 1) := dk_42 (dk_at dksX52_next_0 13 rfl rfl)
theorem dX52_next_14 : decode cX52_next 14 = .ok (.dup, 1) := dk_89 (dk_at dksX52_next_0 14 rfl rfl)
theorem dX52_next_15 : decode cX52_next 15 = .ok (.getfield 102, 3) := dk_180 0 102 (dk_at dksX52_next_0 15 rfl rfl)
theorem dX52_next_18 : decode cX52_next 18 = .ok (.iconst 1, 1) := dk_4 (dk_at dksX52_next_0 18 rfl rfl)
theorem dX52_next_19 : decode cX52_next 19 = .ok (.isub, 1) := dk_100 (dk_at dksX52_next_0 19 rfl rfl)
theorem dX52_next_20 : decode cX52_next 20 = .ok (.putfield 102, 3) := dk_181 0 102 (dk_at dksX52_next_0 20 rfl rfl)
theorem dX52_next_23 : decode cX52_next 23 = .ok (.aload_n 0, 1) := dk_42 (dk_at dksX52_next_0 23 rfl rfl)
theorem dX52_next_24 : decode cX52_next 24 = .ok (.getfield 44, 3) := dk_180 0 44 (dk_at dksX52_next_1 0 rfl rfl)
theorem dX52_next_27 : decode cX52_next 27 = .ok (.aload_n 0, 1) := dk_42 (dk_at dksX52_next_1 3 rfl rfl)
theorem dX52_next_28 : decode cX52_next 28 = .ok (.getfield 102, 3) := dk_180 0 102 (dk_at dksX52_next_1 4 rfl rfl)
theorem dX52_next_31 : decode cX52_next 31 = .ok (.iaload, 1) := dk_46 (dk_at dksX52_next_1 7 rfl rfl)
theorem dX52_next_32 : decode cX52_next 32 = .ok (.iconst 1, 1) := dk_4 (dk_at dksX52_next_1 8 rfl rfl)
theorem dX52_next_33 : decode cX52_next 33 = .ok (.iadd, 1) := dk_96 (dk_at dksX52_next_1 9 rfl rfl)
theorem dX52_next_34 : decode cX52_next 34 = .ok (.istore_n 2, 1) := dk_61 (dk_at dksX52_next_1 10 rfl rfl)
theorem dX52_next_35 : decode cX52_next 35 = .ok (.aload_n 0, 1) := dk_42 (dk_at dksX52_next_1 11 rfl rfl)
theorem dX52_next_36 : decode cX52_next 36 = .ok (.invokevirtual 113, 3) := dk_182 0 113 (dk_at dksX52_next_1 12 rfl rfl)
theorem dX52_next_39 : decode cX52_next 39 = .ok (.istore_n 3, 1) := dk_62 (dk_at dksX52_next_1 15 rfl rfl)
theorem dX52_next_40 : decode cX52_next 40 = .ok (.iload_n 2, 1) := dk_28 (dk_at dksX52_next_1 16 rfl rfl)
theorem dX52_next_41 : decode cX52_next 41 = .ok (.istore 4, 2) := dk_54 4 (dk_at dksX52_next_1 17 rfl rfl)
theorem dX52_next_43 : decode cX52_next 43 = .ok (.iload 4, 2) := dk_21 4 (dk_at dksX52_next_1 19 rfl rfl)
theorem dX52_next_45 : decode cX52_next 45 = .ok (.aload_n 0, 1) := dk_42 (dk_at dksX52_next_1 21 rfl rfl)
theorem dX52_next_46 : decode cX52_next 46 = .ok (.getfield 76, 3) := dk_180 0 76 (dk_at dksX52_next_2 0 rfl rfl)
theorem dX52_next_49 : decode cX52_next 49 = .ok (.if_icmp .ge 41, 3) := dk_162 0 41 (dk_at dksX52_next_2 3 rfl rfl)
theorem dX52_next_52 : decode cX52_next 52 = .ok (.iload_n 3, 1) := dk_29 (dk_at dksX52_next_2 6 rfl rfl)
theorem dX52_next_53 : decode cX52_next 53 = .ok (.iload 4, 2) := dk_21 4 (dk_at dksX52_next_2 7 rfl rfl)
theorem dX52_next_55 : decode cX52_next 55 = .ok (.invokestatic 116, 3) := dk_184 0 116 (dk_at dksX52_next_2 9 rfl rfl)
theorem dX52_next_58 : decode cX52_next 58 = .ok (.ifCond .ne 26, 3) := dk_154 0 26 (dk_at dksX52_next_2 12 rfl rfl)
theorem dX52_next_61 : decode cX52_next 61 = .ok (.aload_n 0, 1) := dk_42 (dk_at dksX52_next_2 15 rfl rfl)
theorem dX52_next_62 : decode cX52_next 62 = .ok (.getfield 44, 3) := dk_180 0 44 (dk_at dksX52_next_2 16 rfl rfl)
theorem dX52_next_65 : decode cX52_next 65 = .ok (.aload_n 0, 1) := dk_42 (dk_at dksX52_next_2 19 rfl rfl)
theorem dX52_next_66 : decode cX52_next 66 = .ok (.getfield 102, 3) := dk_180 0 102 (dk_at dksX52_next_2 20 rfl rfl)
theorem dX52_next_69 : decode cX52_next 69 = .ok (.iload 4, 2) := dk_21 4 (dk_at dksX52_next_3 0 rfl rfl)
theorem dX52_next_71 : decode cX52_next 71 = .ok (.iastore, 1) := dk_79 (dk_at dksX52_next_3 2 rfl rfl)
theorem dX52_next_72 : decode cX52_next 72 = .ok (.aload_n 0, 1) := dk_42 (dk_at dksX52_next_3 3 rfl rfl)
theorem dX52_next_73 : decode cX52_next 73 = .ok (.dup, 1) := dk_89 (dk_at dksX52_next_3 4 rfl rfl)
theorem dX52_next_74 : decode cX52_next 74 = .ok (.getfield 102, 3) := dk_180 0 102 (dk_at dksX52_next_3 5 rfl rfl)
theorem dX52_next_77 : decode cX52_next 77 = .ok (.iconst 1, 1) := dk_4 (dk_at dksX52_next_3 8 rfl rfl)
theorem dX52_next_78 : decode cX52_next 78 = .ok (.iadd, 1) := dk_96 (dk_at dksX52_next_3 9 rfl rfl)
theorem dX52_next_79 : decode cX52_next 79 = .ok (.putfield 102, 3) := dk_181 0 102 (dk_at dksX52_next_3 10 rfl rfl)
theorem dX52_next_82 : decode cX52_next 82 = .ok (.iconst 1, 1) := dk_4 (dk_at dksX52_next_3 13 rfl rfl)
theorem dX52_next_83 : decode cX52_next 83 = .ok (.ireturn, 1) := dk_172 (dk_at dksX52_next_3 14 rfl rfl)
theorem dX52_next_84 : decode cX52_next 84 = .ok (.iinc 4 1, 3) := dk_132 4 1 (dk_at dksX52_next_3 15 rfl rfl)
theorem dX52_next_87 : decode cX52_next 87 = .ok (.goto (-44), 3) := dk_167 255 212 (dk_at dksX52_next_3 18 rfl rfl)
theorem dX52_next_90 : decode cX52_next 90 = .ok (.aload_n 0, 1) := dk_42 (dk_at dksX52_next_3 21 rfl rfl)
theorem dX52_next_91 : decode cX52_next 91 = .ok (.getfield 102, 3) := dk_180 0 102 (dk_at dksX52_next_4 0 rfl rfl)
theorem dX52_next_94 : decode cX52_next 94 = .ok (.ifCond .ne 5, 3) := dk_154 0 5 (dk_at dksX52_next_4 3 rfl rfl)
theorem dX52_next_97 : decode cX52_next 97 = .ok (.iconst 0, 1) := dk_3 (dk_at dksX52_next_4 6 rfl rfl)
theorem dX52_next_98 : decode cX52_next 98 = .ok (.ireturn, 1) := dk_172 (dk_at dksX52_next_4 7 rfl rfl)
theorem dX52_next_99 : decode cX52_next 99 = .ok (.aload_n 0, 1) := dk_42 (dk_at dksX52_next_4 8 rfl rfl)
theorem dX52_next_100 : decode cX52_next 100 = .ok (.dup, 1) := dk_89 (dk_at dksX52_next_4 9 rfl rfl)
theorem dX52_next_101 : decode cX52_next 101 = .ok (.getfield 102, 3) := dk_180 0 102 (dk_at dksX52_next_4 10 rfl rfl)
theorem dX52_next_104 : decode cX52_next 104 = .ok (.iconst 1, 1) := dk_4 (dk_at dksX52_next_4 13 rfl rfl)
theorem dX52_next_105 : decode cX52_next 105 = .ok (.isub, 1) := dk_100 (dk_at dksX52_next_4 14 rfl rfl)
theorem dX52_next_106 : decode cX52_next 106 = .ok (.putfield 102, 3) := dk_181 0 102 (dk_at dksX52_next_4 15 rfl rfl)
theorem dX52_next_109 : decode cX52_next 109 = .ok (.aload_n 0, 1) := dk_42 (dk_at dksX52_next_4 18 rfl rfl)
theorem dX52_next_110 : decode cX52_next 110 = .ok (.getfield 44, 3) := dk_180 0 44 (dk_at dksX52_next_4 19 rfl rfl)
theorem dX52_next_113 : decode cX52_next 113 = .ok (.aload_n 0, 1) := dk_42 (dk_at dksX52_next_4 22 rfl rfl)
theorem dX52_next_114 : decode cX52_next 114 = .ok (.getfield 102, 3) := dk_180 0 102 (dk_at dksX52_next_5 0 rfl rfl)
theorem dX52_next_117 : decode cX52_next 117 = .ok (.iaload, 1) := dk_46 (dk_at dksX52_next_5 3 rfl rfl)
theorem dX52_next_118 : decode cX52_next 118 = .ok (.iconst 1, 1) := dk_4 (dk_at dksX52_next_5 4 rfl rfl)
theorem dX52_next_119 : decode cX52_next 119 = .ok (.iadd, 1) := dk_96 (dk_at dksX52_next_5 5 rfl rfl)
theorem dX52_next_120 : decode cX52_next 120 = .ok (.istore_n 2, 1) := dk_61 (dk_at dksX52_next_5 6 rfl rfl)
theorem dX52_next_121 : decode cX52_next 121 = .ok (.goto (-86), 3) := dk_167 255 170 (dk_at dksX52_next_5 7 rfl rfl)
abbrev cX52_setOf : ByteArray := prog_63_method_10_code
def yX52_setOf : MethodName := ⟨RX52, "setOf", "()I"⟩
def dkwX52_setOf_1 : List UInt8 := [132, 2, 1, 167, 255, 234, 27, 172]
abbrev dktX52_setOf_1 : List UInt8 := dkwX52_setOf_1 ++ []
def dkwX52_setOf_0 : List UInt8 := [3, 60, 3, 61, 28, 42, 180, 0, 102, 162, 0, 20, 27, 4, 42, 180, 0, 44, 28, 46, 120, 128, 60]
abbrev dktX52_setOf_0 : List UInt8 := dkwX52_setOf_0 ++ dktX52_setOf_1
theorem dksX52_setOf_0 : cX52_setOf.data.toList.drop 0 = dktX52_setOf_0 := by decide +kernel
theorem dksX52_setOf_1 : cX52_setOf.data.toList.drop 23 = dktX52_setOf_1 := dk_seg dksX52_setOf_0 23 rfl rfl
theorem dX52_setOf_0 : decode cX52_setOf 0 = .ok (.iconst 0, 1) := dk_3 (dk_at dksX52_setOf_0 0 rfl rfl)
theorem dX52_setOf_1 : decode cX52_setOf 1 = .ok (.istore_n 1, 1) := dk_60 (dk_at dksX52_setOf_0 1 rfl rfl)
theorem dX52_setOf_2 : decode cX52_setOf 2 = .ok (.iconst 0, 1) := dk_3 (dk_at dksX52_setOf_0 2 rfl rfl)
theorem dX52_setOf_3 : decode cX52_setOf 3 = .ok (.istore_n 2, 1) := dk_61 (dk_at dksX52_setOf_0 3 rfl rfl)
theorem dX52_setOf_4 : decode cX52_setOf 4 = .ok (.iload_n 2, 1) := dk_28 (dk_at dksX52_setOf_0 4 rfl rfl)
theorem dX52_setOf_5 : decode cX52_setOf 5 = .ok (.aload_n 0, 1) := dk_42 (dk_at dksX52_setOf_0 5 rfl rfl)
theorem dX52_setOf_6 : decode cX52_setOf 6 = .ok (.getfield 102, 3) := dk_180 0 102 (dk_at dksX52_setOf_0 6 rfl rfl)
theorem dX52_setOf_9 : decode cX52_setOf 9 = .ok (.if_icmp .ge 20, 3) := dk_162 0 20 (dk_at dksX52_setOf_0 9 rfl rfl)
theorem dX52_setOf_12 : decode cX52_setOf 12 = .ok (.iload_n 1, 1) := dk_27 (dk_at dksX52_setOf_0 12 rfl rfl)
theorem dX52_setOf_13 : decode cX52_setOf 13 = .ok (.iconst 1, 1) := dk_4 (dk_at dksX52_setOf_0 13 rfl rfl)
theorem dX52_setOf_14 : decode cX52_setOf 14 = .ok (.aload_n 0, 1) := dk_42 (dk_at dksX52_setOf_0 14 rfl rfl)
theorem dX52_setOf_15 : decode cX52_setOf 15 = .ok (.getfield 44, 3) := dk_180 0 44 (dk_at dksX52_setOf_0 15 rfl rfl)
theorem dX52_setOf_18 : decode cX52_setOf 18 = .ok (.iload_n 2, 1) := dk_28 (dk_at dksX52_setOf_0 18 rfl rfl)
theorem dX52_setOf_19 : decode cX52_setOf 19 = .ok (.iaload, 1) := dk_46 (dk_at dksX52_setOf_0 19 rfl rfl)
theorem dX52_setOf_20 : decode cX52_setOf 20 = .ok (.ishl, 1) := dk_120 (dk_at dksX52_setOf_0 20 rfl rfl)
theorem dX52_setOf_21 : decode cX52_setOf 21 = .ok (.ior, 1) := dk_128 (dk_at dksX52_setOf_0 21 rfl rfl)
theorem dX52_setOf_22 : decode cX52_setOf 22 = .ok (.istore_n 1, 1) := dk_60 (dk_at dksX52_setOf_0 22 rfl rfl)
theorem dX52_setOf_23 : decode cX52_setOf 23 = .ok (.iinc 2 1, 3) := dk_132 2 1 (dk_at dksX52_setOf_1 0 rfl rfl)
theorem dX52_setOf_26 : decode cX52_setOf 26 = .ok (.goto (-22), 3) := dk_167 255 234 (dk_at dksX52_setOf_1 3 rfl rfl)
theorem dX52_setOf_29 : decode cX52_setOf 29 = .ok (.iload_n 1, 1) := dk_27 (dk_at dksX52_setOf_1 6 rfl rfl)
theorem dX52_setOf_30 : decode cX52_setOf 30 = .ok (.ireturn, 1) := dk_172 (dk_at dksX52_setOf_1 7 rfl rfl)
abbrev cX52_isRow : ByteArray := prog_63_method_12_code
def yX52_isRow : MethodName := ⟨RX52, "isRow", "()Z"⟩
def dkwX52_isRow_2 : List UInt8 := [155, 0, 15, 28, 42, 180, 0, 96, 163, 0, 7, 4, 167, 0, 4, 3, 172]
abbrev dktX52_isRow_2 : List UInt8 := dkwX52_isRow_2 ++ []
def dkwX52_isRow_1 : List UInt8 := [96, 60, 132, 2, 1, 167, 255, 231, 42, 182, 0, 105, 61, 27, 42, 180, 0, 93, 163, 0, 19, 28]
abbrev dktX52_isRow_1 : List UInt8 := dkwX52_isRow_1 ++ dktX52_isRow_2
def dkwX52_isRow_0 : List UInt8 := [3, 60, 3, 61, 28, 42, 180, 0, 102, 162, 0, 23, 27, 42, 180, 0, 7, 42, 180, 0, 44, 28, 46, 46]
abbrev dktX52_isRow_0 : List UInt8 := dkwX52_isRow_0 ++ dktX52_isRow_1
theorem dksX52_isRow_0 : cX52_isRow.data.toList.drop 0 = dktX52_isRow_0 := by decide +kernel
theorem dksX52_isRow_1 : cX52_isRow.data.toList.drop 24 = dktX52_isRow_1 := dk_seg dksX52_isRow_0 24 rfl rfl
theorem dksX52_isRow_2 : cX52_isRow.data.toList.drop 46 = dktX52_isRow_2 := dk_seg dksX52_isRow_1 22 rfl rfl
theorem dX52_isRow_0 : decode cX52_isRow 0 = .ok (.iconst 0, 1) := dk_3 (dk_at dksX52_isRow_0 0 rfl rfl)
theorem dX52_isRow_1 : decode cX52_isRow 1 = .ok (.istore_n 1, 1) := dk_60 (dk_at dksX52_isRow_0 1 rfl rfl)
theorem dX52_isRow_2 : decode cX52_isRow 2 = .ok (.iconst 0, 1) := dk_3 (dk_at dksX52_isRow_0 2 rfl rfl)
theorem dX52_isRow_3 : decode cX52_isRow 3 = .ok (.istore_n 2, 1) := dk_61 (dk_at dksX52_isRow_0 3 rfl rfl)
theorem dX52_isRow_4 : decode cX52_isRow 4 = .ok (.iload_n 2, 1) := dk_28 (dk_at dksX52_isRow_0 4 rfl rfl)
theorem dX52_isRow_5 : decode cX52_isRow 5 = .ok (.aload_n 0, 1) := dk_42 (dk_at dksX52_isRow_0 5 rfl rfl)
theorem dX52_isRow_6 : decode cX52_isRow 6 = .ok (.getfield 102, 3) := dk_180 0 102 (dk_at dksX52_isRow_0 6 rfl rfl)
theorem dX52_isRow_9 : decode cX52_isRow 9 = .ok (.if_icmp .ge 23, 3) := dk_162 0 23 (dk_at dksX52_isRow_0 9 rfl rfl)
theorem dX52_isRow_12 : decode cX52_isRow 12 = .ok (.iload_n 1, 1) := dk_27 (dk_at dksX52_isRow_0 12 rfl rfl)
theorem dX52_isRow_13 : decode cX52_isRow 13 = .ok (.aload_n 0, 1) := dk_42 (dk_at dksX52_isRow_0 13 rfl rfl)
theorem dX52_isRow_14 : decode cX52_isRow 14 = .ok (.getfield 7, 3) := dk_180 0 7 (dk_at dksX52_isRow_0 14 rfl rfl)
theorem dX52_isRow_17 : decode cX52_isRow 17 = .ok (.aload_n 0, 1) := dk_42 (dk_at dksX52_isRow_0 17 rfl rfl)
theorem dX52_isRow_18 : decode cX52_isRow 18 = .ok (.getfield 44, 3) := dk_180 0 44 (dk_at dksX52_isRow_0 18 rfl rfl)
theorem dX52_isRow_21 : decode cX52_isRow 21 = .ok (.iload_n 2, 1) := dk_28 (dk_at dksX52_isRow_0 21 rfl rfl)
theorem dX52_isRow_22 : decode cX52_isRow 22 = .ok (.iaload, 1) := dk_46 (dk_at dksX52_isRow_0 22 rfl rfl)
theorem dX52_isRow_23 : decode cX52_isRow 23 = .ok (.iaload, 1) := dk_46 (dk_at dksX52_isRow_0 23 rfl rfl)
theorem dX52_isRow_24 : decode cX52_isRow 24 = .ok (.iadd, 1) := dk_96 (dk_at dksX52_isRow_1 0 rfl rfl)
theorem dX52_isRow_25 : decode cX52_isRow 25 = .ok (.istore_n 1, 1) := dk_60 (dk_at dksX52_isRow_1 1 rfl rfl)
theorem dX52_isRow_26 : decode cX52_isRow 26 = .ok (.iinc 2 1, 3) := dk_132 2 1 (dk_at dksX52_isRow_1 2 rfl rfl)
theorem dX52_isRow_29 : decode cX52_isRow 29 = .ok (.goto (-25), 3) := dk_167 255 231 (dk_at dksX52_isRow_1 5 rfl rfl)
theorem dX52_isRow_32 : decode cX52_isRow 32 = .ok (.aload_n 0, 1) := dk_42 (dk_at dksX52_isRow_1 8 rfl rfl)
theorem dX52_isRow_33 : decode cX52_isRow 33 = .ok (.invokevirtual 105, 3) := dk_182 0 105 (dk_at dksX52_isRow_1 9 rfl rfl)
theorem dX52_isRow_36 : decode cX52_isRow 36 = .ok (.istore_n 2, 1) := dk_61 (dk_at dksX52_isRow_1 12 rfl rfl)
theorem dX52_isRow_37 : decode cX52_isRow 37 = .ok (.iload_n 1, 1) := dk_27 (dk_at dksX52_isRow_1 13 rfl rfl)
theorem dX52_isRow_38 : decode cX52_isRow 38 = .ok (.aload_n 0, 1) := dk_42 (dk_at dksX52_isRow_1 14 rfl rfl)
theorem dX52_isRow_39 : decode cX52_isRow 39 = .ok (.getfield 93, 3) := dk_180 0 93 (dk_at dksX52_isRow_1 15 rfl rfl)
theorem dX52_isRow_42 : decode cX52_isRow 42 = .ok (.if_icmp .gt 19, 3) := dk_163 0 19 (dk_at dksX52_isRow_1 18 rfl rfl)
theorem dX52_isRow_45 : decode cX52_isRow 45 = .ok (.iload_n 2, 1) := dk_28 (dk_at dksX52_isRow_1 21 rfl rfl)
theorem dX52_isRow_46 : decode cX52_isRow 46 = .ok (.ifCond .lt 15, 3) := dk_155 0 15 (dk_at dksX52_isRow_2 0 rfl rfl)
theorem dX52_isRow_49 : decode cX52_isRow 49 = .ok (.iload_n 2, 1) := dk_28 (dk_at dksX52_isRow_2 3 rfl rfl)
theorem dX52_isRow_50 : decode cX52_isRow 50 = .ok (.aload_n 0, 1) := dk_42 (dk_at dksX52_isRow_2 4 rfl rfl)
theorem dX52_isRow_51 : decode cX52_isRow 51 = .ok (.getfield 96, 3) := dk_180 0 96 (dk_at dksX52_isRow_2 5 rfl rfl)
theorem dX52_isRow_54 : decode cX52_isRow 54 = .ok (.if_icmp .gt 7, 3) := dk_163 0 7 (dk_at dksX52_isRow_2 8 rfl rfl)
theorem dX52_isRow_57 : decode cX52_isRow 57 = .ok (.iconst 1, 1) := dk_4 (dk_at dksX52_isRow_2 11 rfl rfl)
theorem dX52_isRow_58 : decode cX52_isRow 58 = .ok (.goto 4, 3) := dk_167 0 4 (dk_at dksX52_isRow_2 12 rfl rfl)
theorem dX52_isRow_61 : decode cX52_isRow 61 = .ok (.iconst 0, 1) := dk_3 (dk_at dksX52_isRow_2 15 rfl rfl)
theorem dX52_isRow_62 : decode cX52_isRow 62 = .ok (.ireturn, 1) := dk_172 (dk_at dksX52_isRow_2 16 rfl rfl)
abbrev cX52_secondsOf : ByteArray := prog_63_method_11_code
def yX52_secondsOf : MethodName := ⟨RX52, "secondsOf", "()I"⟩
def dkwX52_secondsOf_3 : List UInt8 := [132, 2, 1, 167, 255, 187, 27, 172]
abbrev dktX52_secondsOf_3 : List UInt8 := dkwX52_secondsOf_3 ++ []
def dkwX52_secondsOf_2 : List UInt8 := [62, 29, 156, 0, 5, 2, 172, 27, 29, 42, 180, 0, 13, 42, 180, 0, 44, 28, 46, 46, 96, 96, 60]
abbrev dktX52_secondsOf_2 : List UInt8 := dkwX52_secondsOf_2 ++ dktX52_secondsOf_3
def dkwX52_secondsOf_1 : List UInt8 := [167, 0, 13, 42, 180, 0, 44, 28, 4, 100, 46, 4, 96, 104, 42, 180, 0, 44, 28, 46, 96, 4, 96, 46]
abbrev dktX52_secondsOf_1 : List UInt8 := dkwX52_secondsOf_1 ++ dktX52_secondsOf_2
def dkwX52_secondsOf_0 : List UInt8 := [3, 60, 3, 61, 28, 42, 180, 0, 102, 162, 0, 67, 42, 180, 0, 16, 16, 7, 28, 154, 0, 7, 3]
abbrev dktX52_secondsOf_0 : List UInt8 := dkwX52_secondsOf_0 ++ dktX52_secondsOf_1
theorem dksX52_secondsOf_0 : cX52_secondsOf.data.toList.drop 0 = dktX52_secondsOf_0 := by decide +kernel
theorem dksX52_secondsOf_1 : cX52_secondsOf.data.toList.drop 23 = dktX52_secondsOf_1 := dk_seg dksX52_secondsOf_0 23 rfl rfl
theorem dksX52_secondsOf_2 : cX52_secondsOf.data.toList.drop 47 = dktX52_secondsOf_2 := dk_seg dksX52_secondsOf_1 24 rfl rfl
theorem dksX52_secondsOf_3 : cX52_secondsOf.data.toList.drop 70 = dktX52_secondsOf_3 := dk_seg dksX52_secondsOf_2 23 rfl rfl
theorem dX52_secondsOf_0 : decode cX52_secondsOf 0 = .ok (.iconst 0, 1) := dk_3 (dk_at dksX52_secondsOf_0 0 rfl rfl)
theorem dX52_secondsOf_1 : decode cX52_secondsOf 1 = .ok (.istore_n 1, 1) := dk_60 (dk_at dksX52_secondsOf_0 1 rfl rfl)
theorem dX52_secondsOf_2 : decode cX52_secondsOf 2 = .ok (.iconst 0, 1) := dk_3 (dk_at dksX52_secondsOf_0 2 rfl rfl)
theorem dX52_secondsOf_3 : decode cX52_secondsOf 3 = .ok (.istore_n 2, 1) := dk_61 (dk_at dksX52_secondsOf_0 3 rfl rfl)
theorem dX52_secondsOf_4 : decode cX52_secondsOf 4 = .ok (.iload_n 2, 1) := dk_28 (dk_at dksX52_secondsOf_0 4 rfl rfl)
theorem dX52_secondsOf_5 : decode cX52_secondsOf 5 = .ok (.aload_n 0, 1) := dk_42 (dk_at dksX52_secondsOf_0 5 rfl rfl)
theorem dX52_secondsOf_6 : decode cX52_secondsOf 6 = .ok (.getfield 102, 3) := dk_180 0 102 (dk_at dksX52_secondsOf_0 6 rfl rfl)
theorem dX52_secondsOf_9 : decode cX52_secondsOf 9 = .ok (.if_icmp .ge 67, 3) := dk_162 0 67 (dk_at dksX52_secondsOf_0 9 rfl rfl)
theorem dX52_secondsOf_12 : decode cX52_secondsOf 12 = .ok (.aload_n 0, 1) := dk_42 (dk_at dksX52_secondsOf_0 12 rfl rfl)
theorem dX52_secondsOf_13 : decode cX52_secondsOf 13 = .ok (.getfield 16, 3) := dk_180 0 16 (dk_at dksX52_secondsOf_0 13 rfl rfl)
theorem dX52_secondsOf_16 : decode cX52_secondsOf 16 = .ok (.bipush 7, 2) := dk_16 7 (dk_at dksX52_secondsOf_0 16 rfl rfl)
theorem dX52_secondsOf_18 : decode cX52_secondsOf 18 = .ok (.iload_n 2, 1) := dk_28 (dk_at dksX52_secondsOf_0 18 rfl rfl)
theorem dX52_secondsOf_19 : decode cX52_secondsOf 19 = .ok (.ifCond .ne 7, 3) := dk_154 0 7 (dk_at dksX52_secondsOf_0 19 rfl rfl)
theorem dX52_secondsOf_22 : decode cX52_secondsOf 22 = .ok (.iconst 0, 1) := dk_3 (dk_at dksX52_secondsOf_0 22 rfl rfl)
theorem dX52_secondsOf_23 : decode cX52_secondsOf 23 = .ok (.goto 13, 3) := dk_167 0 13 (dk_at dksX52_secondsOf_1 0 rfl rfl)
theorem dX52_secondsOf_26 : decode cX52_secondsOf 26 = .ok (.aload_n 0, 1) := dk_42 (dk_at dksX52_secondsOf_1 3 rfl rfl)
theorem dX52_secondsOf_27 : decode cX52_secondsOf 27 = .ok (.getfield 44, 3) := dk_180 0 44 (dk_at dksX52_secondsOf_1 4 rfl rfl)
theorem dX52_secondsOf_30 : decode cX52_secondsOf 30 = .ok (.iload_n 2, 1) := dk_28 (dk_at dksX52_secondsOf_1 7 rfl rfl)
theorem dX52_secondsOf_31 : decode cX52_secondsOf 31 = .ok (.iconst 1, 1) := dk_4 (dk_at dksX52_secondsOf_1 8 rfl rfl)
theorem dX52_secondsOf_32 : decode cX52_secondsOf 32 = .ok (.isub, 1) := dk_100 (dk_at dksX52_secondsOf_1 9 rfl rfl)
theorem dX52_secondsOf_33 : decode cX52_secondsOf 33 = .ok (.iaload, 1) := dk_46 (dk_at dksX52_secondsOf_1 10 rfl rfl)
theorem dX52_secondsOf_34 : decode cX52_secondsOf 34 = .ok (.iconst 1, 1) := dk_4 (dk_at dksX52_secondsOf_1 11 rfl rfl)
theorem dX52_secondsOf_35 : decode cX52_secondsOf 35 = .ok (.iadd, 1) := dk_96 (dk_at dksX52_secondsOf_1 12 rfl rfl)
theorem dX52_secondsOf_36 : decode cX52_secondsOf 36 = .ok (.imul, 1) := dk_104 (dk_at dksX52_secondsOf_1 13 rfl rfl)
theorem dX52_secondsOf_37 : decode cX52_secondsOf 37 = .ok (.aload_n 0, 1) := dk_42 (dk_at dksX52_secondsOf_1 14 rfl rfl)
theorem dX52_secondsOf_38 : decode cX52_secondsOf 38 = .ok (.getfield 44, 3) := dk_180 0 44 (dk_at dksX52_secondsOf_1 15 rfl rfl)
theorem dX52_secondsOf_41 : decode cX52_secondsOf 41 = .ok (.iload_n 2, 1) := dk_28 (dk_at dksX52_secondsOf_1 18 rfl rfl)
theorem dX52_secondsOf_42 : decode cX52_secondsOf 42 = .ok (.iaload, 1) := dk_46 (dk_at dksX52_secondsOf_1 19 rfl rfl)
theorem dX52_secondsOf_43 : decode cX52_secondsOf 43 = .ok (.iadd, 1) := dk_96 (dk_at dksX52_secondsOf_1 20 rfl rfl)
theorem dX52_secondsOf_44 : decode cX52_secondsOf 44 = .ok (.iconst 1, 1) := dk_4 (dk_at dksX52_secondsOf_1 21 rfl rfl)
theorem dX52_secondsOf_45 : decode cX52_secondsOf 45 = .ok (.iadd, 1) := dk_96 (dk_at dksX52_secondsOf_1 22 rfl rfl)
theorem dX52_secondsOf_46 : decode cX52_secondsOf 46 = .ok (.iaload, 1) := dk_46 (dk_at dksX52_secondsOf_1 23 rfl rfl)
theorem dX52_secondsOf_47 : decode cX52_secondsOf 47 = .ok (.istore_n 3, 1) := dk_62 (dk_at dksX52_secondsOf_2 0 rfl rfl)
theorem dX52_secondsOf_48 : decode cX52_secondsOf 48 = .ok (.iload_n 3, 1) := dk_29 (dk_at dksX52_secondsOf_2 1 rfl rfl)
theorem dX52_secondsOf_49 : decode cX52_secondsOf 49 = .ok (.ifCond .ge 5, 3) := dk_156 0 5 (dk_at dksX52_secondsOf_2 2 rfl rfl)
theorem dX52_secondsOf_52 : decode cX52_secondsOf 52 = .ok (.iconst (-1), 1) := dk_2 (dk_at dksX52_secondsOf_2 5 rfl rfl)
theorem dX52_secondsOf_53 : decode cX52_secondsOf 53 = .ok (.ireturn, 1) := dk_172 (dk_at dksX52_secondsOf_2 6 rfl rfl)
theorem dX52_secondsOf_54 : decode cX52_secondsOf 54 = .ok (.iload_n 1, 1) := dk_27 (dk_at dksX52_secondsOf_2 7 rfl rfl)
theorem dX52_secondsOf_55 : decode cX52_secondsOf 55 = .ok (.iload_n 3, 1) := dk_29 (dk_at dksX52_secondsOf_2 8 rfl rfl)
theorem dX52_secondsOf_56 : decode cX52_secondsOf 56 = .ok (.aload_n 0, 1) := dk_42 (dk_at dksX52_secondsOf_2 9 rfl rfl)
theorem dX52_secondsOf_57 : decode cX52_secondsOf 57 = .ok (.getfield 13, 3) := dk_180 0 13 (dk_at dksX52_secondsOf_2 10 rfl rfl)
theorem dX52_secondsOf_60 : decode cX52_secondsOf 60 = .ok (.aload_n 0, 1) := dk_42 (dk_at dksX52_secondsOf_2 13 rfl rfl)
theorem dX52_secondsOf_61 : decode cX52_secondsOf 61 = .ok (.getfield 44, 3) := dk_180 0 44 (dk_at dksX52_secondsOf_2 14 rfl rfl)
theorem dX52_secondsOf_64 : decode cX52_secondsOf 64 = .ok (.iload_n 2, 1) := dk_28 (dk_at dksX52_secondsOf_2 17 rfl rfl)
theorem dX52_secondsOf_65 : decode cX52_secondsOf 65 = .ok (.iaload, 1) := dk_46 (dk_at dksX52_secondsOf_2 18 rfl rfl)
theorem dX52_secondsOf_66 : decode cX52_secondsOf 66 = .ok (.iaload, 1) := dk_46 (dk_at dksX52_secondsOf_2 19 rfl rfl)
theorem dX52_secondsOf_67 : decode cX52_secondsOf 67 = .ok (.iadd, 1) := dk_96 (dk_at dksX52_secondsOf_2 20 rfl rfl)
theorem dX52_secondsOf_68 : decode cX52_secondsOf 68 = .ok (.iadd, 1) := dk_96 (dk_at dksX52_secondsOf_2 21 rfl rfl)
theorem dX52_secondsOf_69 : decode cX52_secondsOf 69 = .ok (.istore_n 1, 1) := dk_60 (dk_at dksX52_secondsOf_2 22 rfl rfl)
theorem dX52_secondsOf_70 : decode cX52_secondsOf 70 = .ok (.iinc 2 1, 3) := dk_132 2 1 (dk_at dksX52_secondsOf_3 0 rfl rfl)
theorem dX52_secondsOf_73 : decode cX52_secondsOf 73 = .ok (.goto (-69), 3) := dk_167 255 187 (dk_at dksX52_secondsOf_3 3 rfl rfl)
theorem dX52_secondsOf_76 : decode cX52_secondsOf 76 = .ok (.iload_n 1, 1) := dk_27 (dk_at dksX52_secondsOf_3 6 rfl rfl)
theorem dX52_secondsOf_77 : decode cX52_secondsOf 77 = .ok (.ireturn, 1) := dk_172 (dk_at dksX52_secondsOf_3 7 rfl rfl)
abbrev cX52_isRound : ByteArray := prog_63_method_13_code
def yX52_isRound : MethodName := ⟨RX52, "isRound", "()Z"⟩
def dkwX52_isRound_2 : List UInt8 := [167, 0, 4, 3, 172]
abbrev dktX52_isRound_2 : List UInt8 := dkwX52_isRound_2 ++ []
def dkwX52_isRound_1 : List UInt8 := [182, 0, 109, 153, 0, 24, 27, 155, 0, 20, 42, 182, 0, 105, 27, 96, 42, 180, 0, 96, 163, 0, 7, 4]
abbrev dktX52_isRound_1 : List UInt8 := dkwX52_isRound_1 ++ dktX52_isRound_2
def dkwX52_isRound_0 : List UInt8 := [42, 180, 0, 16, 16, 7, 42, 180, 0, 44, 42, 180, 0, 102, 4, 100, 46, 4, 96, 104, 46, 60, 42]
abbrev dktX52_isRound_0 : List UInt8 := dkwX52_isRound_0 ++ dktX52_isRound_1
theorem dksX52_isRound_0 : cX52_isRound.data.toList.drop 0 = dktX52_isRound_0 := by decide +kernel
theorem dksX52_isRound_1 : cX52_isRound.data.toList.drop 23 = dktX52_isRound_1 := dk_seg dksX52_isRound_0 23 rfl rfl
theorem dksX52_isRound_2 : cX52_isRound.data.toList.drop 47 = dktX52_isRound_2 := dk_seg dksX52_isRound_1 24 rfl rfl
theorem dX52_isRound_0 : decode cX52_isRound 0 = .ok (.aload_n 0, 1) := dk_42 (dk_at dksX52_isRound_0 0 rfl rfl)
theorem dX52_isRound_1 : decode cX52_isRound 1 = .ok (.getfield 16, 3) := dk_180 0 16 (dk_at dksX52_isRound_0 1 rfl rfl)
theorem dX52_isRound_4 : decode cX52_isRound 4 = .ok (.bipush 7, 2) := dk_16 7 (dk_at dksX52_isRound_0 4 rfl rfl)
theorem dX52_isRound_6 : decode cX52_isRound 6 = .ok (.aload_n 0, 1) := dk_42 (dk_at dksX52_isRound_0 6 rfl rfl)
theorem dX52_isRound_7 : decode cX52_isRound 7 = .ok (.getfield 44, 3) := dk_180 0 44 (dk_at dksX52_isRound_0 7 rfl rfl)
theorem dX52_isRound_10 : decode cX52_isRound 10 = .ok (.aload_n 0, 1) := dk_42 (dk_at dksX52_isRound_0 10 rfl rfl)
theorem dX52_isRound_11 : decode cX52_isRound 11 = .ok (.getfield 102, 3) := dk_180 0 102 (dk_at dksX52_isRound_0 11 rfl rfl)
theorem dX52_isRound_14 : decode cX52_isRound 14 = .ok (.iconst 1, 1) := dk_4 (dk_at dksX52_isRound_0 14 rfl rfl)
theorem dX52_isRound_15 : decode cX52_isRound 15 = .ok (.isub, 1) := dk_100 (dk_at dksX52_isRound_0 15 rfl rfl)
theorem dX52_isRound_16 : decode cX52_isRound 16 = .ok (.iaload, 1) := dk_46 (dk_at dksX52_isRound_0 16 rfl rfl)
theorem dX52_isRound_17 : decode cX52_isRound 17 = .ok (.iconst 1, 1) := dk_4 (dk_at dksX52_isRound_0 17 rfl rfl)
theorem dX52_isRound_18 : decode cX52_isRound 18 = .ok (.iadd, 1) := dk_96 (dk_at dksX52_isRound_0 18 rfl rfl)
theorem dX52_isRound_19 : decode cX52_isRound 19 = .ok (.imul, 1) := dk_104 (dk_at dksX52_isRound_0 19 rfl rfl)
theorem dX52_isRound_20 : decode cX52_isRound 20 = .ok (.iaload, 1) := dk_46 (dk_at dksX52_isRound_0 20 rfl rfl)
theorem dX52_isRound_21 : decode cX52_isRound 21 = .ok (.istore_n 1, 1) := dk_60 (dk_at dksX52_isRound_0 21 rfl rfl)
theorem dX52_isRound_22 : decode cX52_isRound 22 = .ok (.aload_n 0, 1) := dk_42 (dk_at dksX52_isRound_0 22 rfl rfl)
theorem dX52_isRound_23 : decode cX52_isRound 23 = .ok (.invokevirtual 109, 3) := dk_182 0 109 (dk_at dksX52_isRound_1 0 rfl rfl)
theorem dX52_isRound_26 : decode cX52_isRound 26 = .ok (.ifCond .eq 24, 3) := dk_153 0 24 (dk_at dksX52_isRound_1 3 rfl rfl)
theorem dX52_isRound_29 : decode cX52_isRound 29 = .ok (.iload_n 1, 1) := dk_27 (dk_at dksX52_isRound_1 6 rfl rfl)
theorem dX52_isRound_30 : decode cX52_isRound 30 = .ok (.ifCond .lt 20, 3) := dk_155 0 20 (dk_at dksX52_isRound_1 7 rfl rfl)
theorem dX52_isRound_33 : decode cX52_isRound 33 = .ok (.aload_n 0, 1) := dk_42 (dk_at dksX52_isRound_1 10 rfl rfl)
theorem dX52_isRound_34 : decode cX52_isRound 34 = .ok (.invokevirtual 105, 3) := dk_182 0 105 (dk_at dksX52_isRound_1 11 rfl rfl)
theorem dX52_isRound_37 : decode cX52_isRound 37 = .ok (.iload_n 1, 1) := dk_27 (dk_at dksX52_isRound_1 14 rfl rfl)
theorem dX52_isRound_38 : decode cX52_isRound 38 = .ok (.iadd, 1) := dk_96 (dk_at dksX52_isRound_1 15 rfl rfl)
theorem dX52_isRound_39 : decode cX52_isRound 39 = .ok (.aload_n 0, 1) := dk_42 (dk_at dksX52_isRound_1 16 rfl rfl)
theorem dX52_isRound_40 : decode cX52_isRound 40 = .ok (.getfield 96, 3) := dk_180 0 96 (dk_at dksX52_isRound_1 17 rfl rfl)
theorem dX52_isRound_43 : decode cX52_isRound 43 = .ok (.if_icmp .gt 7, 3) := dk_163 0 7 (dk_at dksX52_isRound_1 20 rfl rfl)
theorem dX52_isRound_46 : decode cX52_isRound 46 = .ok (.iconst 1, 1) := dk_4 (dk_at dksX52_isRound_1 23 rfl rfl)
theorem dX52_isRound_47 : decode cX52_isRound 47 = .ok (.goto 4, 3) := dk_167 0 4 (dk_at dksX52_isRound_2 0 rfl rfl)
theorem dX52_isRound_50 : decode cX52_isRound 50 = .ok (.iconst 0, 1) := dk_3 (dk_at dksX52_isRound_2 3 rfl rfl)
theorem dX52_isRound_51 : decode cX52_isRound 51 = .ok (.ireturn, 1) := dk_172 (dk_at dksX52_isRound_2 4 rfl rfl)
abbrev cX52_costOf : ByteArray := prog_63_method_14_code
def yX52_costOf : MethodName := ⟨RX52, "costOf", "()I"⟩
def dkwX52_costOf_3 : List UInt8 := [132, 2, 1, 167, 255, 207, 27, 172]
abbrev dktX52_costOf_3 : List UInt8 := dkwX52_costOf_3 ++ []
def dkwX52_costOf_2 : List UInt8 := [180, 0, 44, 28, 4, 100, 46, 4, 96, 104, 42, 180, 0, 44, 28, 46, 96, 4, 96, 46, 96, 60]
abbrev dktX52_costOf_2 : List UInt8 := dkwX52_costOf_2 ++ dktX52_costOf_3
def dkwX52_costOf_1 : List UInt8 := [28, 42, 180, 0, 102, 162, 0, 47, 27, 42, 180, 0, 19, 16, 7, 28, 154, 0, 7, 3, 167, 0, 13, 42]
abbrev dktX52_costOf_1 : List UInt8 := dkwX52_costOf_1 ++ dktX52_costOf_2
def dkwX52_costOf_0 : List UInt8 := [42, 180, 0, 19, 16, 7, 42, 180, 0, 44, 42, 180, 0, 102, 4, 100, 46, 4, 96, 104, 46, 60, 3, 61]
abbrev dktX52_costOf_0 : List UInt8 := dkwX52_costOf_0 ++ dktX52_costOf_1
theorem dksX52_costOf_0 : cX52_costOf.data.toList.drop 0 = dktX52_costOf_0 := by decide +kernel
theorem dksX52_costOf_1 : cX52_costOf.data.toList.drop 24 = dktX52_costOf_1 := dk_seg dksX52_costOf_0 24 rfl rfl
theorem dksX52_costOf_2 : cX52_costOf.data.toList.drop 48 = dktX52_costOf_2 := dk_seg dksX52_costOf_1 24 rfl rfl
theorem dksX52_costOf_3 : cX52_costOf.data.toList.drop 70 = dktX52_costOf_3 := dk_seg dksX52_costOf_2 22 rfl rfl
theorem dX52_costOf_0 : decode cX52_costOf 0 = .ok (.aload_n 0, 1) := dk_42 (dk_at dksX52_costOf_0 0 rfl rfl)
theorem dX52_costOf_1 : decode cX52_costOf 1 = .ok (.getfield 19, 3) := dk_180 0 19 (dk_at dksX52_costOf_0 1 rfl rfl)
theorem dX52_costOf_4 : decode cX52_costOf 4 = .ok (.bipush 7, 2) := dk_16 7 (dk_at dksX52_costOf_0 4 rfl rfl)
theorem dX52_costOf_6 : decode cX52_costOf 6 = .ok (.aload_n 0, 1) := dk_42 (dk_at dksX52_costOf_0 6 rfl rfl)
theorem dX52_costOf_7 : decode cX52_costOf 7 = .ok (.getfield 44, 3) := dk_180 0 44 (dk_at dksX52_costOf_0 7 rfl rfl)
theorem dX52_costOf_10 : decode cX52_costOf 10 = .ok (.aload_n 0, 1) := dk_42 (dk_at dksX52_costOf_0 10 rfl rfl)
theorem dX52_costOf_11 : decode cX52_costOf 11 = .ok (.getfield 102, 3) := dk_180 0 102 (dk_at dksX52_costOf_0 11 rfl rfl)
theorem dX52_costOf_14 : decode cX52_costOf 14 = .ok (.iconst 1, 1) := dk_4 (dk_at dksX52_costOf_0 14 rfl rfl)
theorem dX52_costOf_15 : decode cX52_costOf 15 = .ok (.isub, 1) := dk_100 (dk_at dksX52_costOf_0 15 rfl rfl)
theorem dX52_costOf_16 : decode cX52_costOf 16 = .ok (.iaload, 1) := dk_46 (dk_at dksX52_costOf_0 16 rfl rfl)
theorem dX52_costOf_17 : decode cX52_costOf 17 = .ok (.iconst 1, 1) := dk_4 (dk_at dksX52_costOf_0 17 rfl rfl)
theorem dX52_costOf_18 : decode cX52_costOf 18 = .ok (.iadd, 1) := dk_96 (dk_at dksX52_costOf_0 18 rfl rfl)
theorem dX52_costOf_19 : decode cX52_costOf 19 = .ok (.imul, 1) := dk_104 (dk_at dksX52_costOf_0 19 rfl rfl)
theorem dX52_costOf_20 : decode cX52_costOf 20 = .ok (.iaload, 1) := dk_46 (dk_at dksX52_costOf_0 20 rfl rfl)
theorem dX52_costOf_21 : decode cX52_costOf 21 = .ok (.istore_n 1, 1) := dk_60 (dk_at dksX52_costOf_0 21 rfl rfl)
theorem dX52_costOf_22 : decode cX52_costOf 22 = .ok (.iconst 0, 1) := dk_3 (dk_at dksX52_costOf_0 22 rfl rfl)
theorem dX52_costOf_23 : decode cX52_costOf 23 = .ok (.istore_n 2, 1) := dk_61 (dk_at dksX52_costOf_0 23 rfl rfl)
theorem dX52_costOf_24 : decode cX52_costOf 24 = .ok (.iload_n 2, 1) := dk_28 (dk_at dksX52_costOf_1 0 rfl rfl)
theorem dX52_costOf_25 : decode cX52_costOf 25 = .ok (.aload_n 0, 1) := dk_42 (dk_at dksX52_costOf_1 1 rfl rfl)
theorem dX52_costOf_26 : decode cX52_costOf 26 = .ok (.getfield 102, 3) := dk_180 0 102 (dk_at dksX52_costOf_1 2 rfl rfl)
theorem dX52_costOf_29 : decode cX52_costOf 29 = .ok (.if_icmp .ge 47, 3) := dk_162 0 47 (dk_at dksX52_costOf_1 5 rfl rfl)
theorem dX52_costOf_32 : decode cX52_costOf 32 = .ok (.iload_n 1, 1) := dk_27 (dk_at dksX52_costOf_1 8 rfl rfl)
theorem dX52_costOf_33 : decode cX52_costOf 33 = .ok (.aload_n 0, 1) := dk_42 (dk_at dksX52_costOf_1 9 rfl rfl)
theorem dX52_costOf_34 : decode cX52_costOf 34 = .ok (.getfield 19, 3) := dk_180 0 19 (dk_at dksX52_costOf_1 10 rfl rfl)
theorem dX52_costOf_37 : decode cX52_costOf 37 = .ok (.bipush 7, 2) := dk_16 7 (dk_at dksX52_costOf_1 13 rfl rfl)
theorem dX52_costOf_39 : decode cX52_costOf 39 = .ok (.iload_n 2, 1) := dk_28 (dk_at dksX52_costOf_1 15 rfl rfl)
theorem dX52_costOf_40 : decode cX52_costOf 40 = .ok (.ifCond .ne 7, 3) := dk_154 0 7 (dk_at dksX52_costOf_1 16 rfl rfl)
theorem dX52_costOf_43 : decode cX52_costOf 43 = .ok (.iconst 0, 1) := dk_3 (dk_at dksX52_costOf_1 19 rfl rfl)
theorem dX52_costOf_44 : decode cX52_costOf 44 = .ok (.goto 13, 3) := dk_167 0 13 (dk_at dksX52_costOf_1 20 rfl rfl)
theorem dX52_costOf_47 : decode cX52_costOf 47 = .ok (.aload_n 0, 1) := dk_42 (dk_at dksX52_costOf_1 23 rfl rfl)
theorem dX52_costOf_48 : decode cX52_costOf 48 = .ok (.getfield 44, 3) := dk_180 0 44 (dk_at dksX52_costOf_2 0 rfl rfl)
theorem dX52_costOf_51 : decode cX52_costOf 51 = .ok (.iload_n 2, 1) := dk_28 (dk_at dksX52_costOf_2 3 rfl rfl)
theorem dX52_costOf_52 : decode cX52_costOf 52 = .ok (.iconst 1, 1) := dk_4 (dk_at dksX52_costOf_2 4 rfl rfl)
theorem dX52_costOf_53 : decode cX52_costOf 53 = .ok (.isub, 1) := dk_100 (dk_at dksX52_costOf_2 5 rfl rfl)
theorem dX52_costOf_54 : decode cX52_costOf 54 = .ok (.iaload, 1) := dk_46 (dk_at dksX52_costOf_2 6 rfl rfl)
theorem dX52_costOf_55 : decode cX52_costOf 55 = .ok (.iconst 1, 1) := dk_4 (dk_at dksX52_costOf_2 7 rfl rfl)
theorem dX52_costOf_56 : decode cX52_costOf 56 = .ok (.iadd, 1) := dk_96 (dk_at dksX52_costOf_2 8 rfl rfl)
theorem dX52_costOf_57 : decode cX52_costOf 57 = .ok (.imul, 1) := dk_104 (dk_at dksX52_costOf_2 9 rfl rfl)
theorem dX52_costOf_58 : decode cX52_costOf 58 = .ok (.aload_n 0, 1) := dk_42 (dk_at dksX52_costOf_2 10 rfl rfl)
theorem dX52_costOf_59 : decode cX52_costOf 59 = .ok (.getfield 44, 3) := dk_180 0 44 (dk_at dksX52_costOf_2 11 rfl rfl)
theorem dX52_costOf_62 : decode cX52_costOf 62 = .ok (.iload_n 2, 1) := dk_28 (dk_at dksX52_costOf_2 14 rfl rfl)
theorem dX52_costOf_63 : decode cX52_costOf 63 = .ok (.iaload, 1) := dk_46 (dk_at dksX52_costOf_2 15 rfl rfl)
theorem dX52_costOf_64 : decode cX52_costOf 64 = .ok (.iadd, 1) := dk_96 (dk_at dksX52_costOf_2 16 rfl rfl)
theorem dX52_costOf_65 : decode cX52_costOf 65 = .ok (.iconst 1, 1) := dk_4 (dk_at dksX52_costOf_2 17 rfl rfl)
theorem dX52_costOf_66 : decode cX52_costOf 66 = .ok (.iadd, 1) := dk_96 (dk_at dksX52_costOf_2 18 rfl rfl)
theorem dX52_costOf_67 : decode cX52_costOf 67 = .ok (.iaload, 1) := dk_46 (dk_at dksX52_costOf_2 19 rfl rfl)
theorem dX52_costOf_68 : decode cX52_costOf 68 = .ok (.iadd, 1) := dk_96 (dk_at dksX52_costOf_2 20 rfl rfl)
theorem dX52_costOf_69 : decode cX52_costOf 69 = .ok (.istore_n 1, 1) := dk_60 (dk_at dksX52_costOf_2 21 rfl rfl)
theorem dX52_costOf_70 : decode cX52_costOf 70 = .ok (.iinc 2 1, 3) := dk_132 2 1 (dk_at dksX52_costOf_3 0 rfl rfl)
theorem dX52_costOf_73 : decode cX52_costOf 73 = .ok (.goto (-49), 3) := dk_167 255 207 (dk_at dksX52_costOf_3 3 rfl rfl)
theorem dX52_costOf_76 : decode cX52_costOf 76 = .ok (.iload_n 1, 1) := dk_27 (dk_at dksX52_costOf_3 6 rfl rfl)
theorem dX52_costOf_77 : decode cX52_costOf 77 = .ok (.ireturn, 1) := dk_172 (dk_at dksX52_costOf_3 7 rfl rfl)
abbrev cX52_isBarred : ByteArray := prog_63_method_17_code
def yX52_isBarred : MethodName := ⟨RX52, "isBarred", "(I)Z"⟩
def dkwX52_isBarred_4 : List UInt8 := [132, 3, 1, 167, 255, 163, 28, 172]
abbrev dktX52_isBarred_4 : List UInt8 := dkwX52_isBarred_4 ++ []
def dkwX52_isBarred_3 : List UInt8 := [153, 0, 16, 27, 21, 4, 184, 0, 116, 153, 0, 7, 4, 167, 0, 4, 3, 61, 132, 4, 1, 167, 255, 180]
abbrev dktX52_isBarred_3 : List UInt8 := dkwX52_isBarred_3 ++ dktX52_isBarred_4
def dkwX52_isBarred_2 : List UInt8 := [29, 184, 0, 116, 27, 21, 4, 184, 0, 116, 160, 0, 26, 21, 5, 5, 160, 0, 24, 27, 29, 184, 0, 116]
abbrev dktX52_isBarred_2 : List UInt8 := dkwX52_isBarred_2 ++ dktX52_isBarred_3
def dkwX52_isBarred_1 : List UInt8 := [180, 0, 22, 16, 6, 29, 104, 21, 4, 96, 46, 54, 5, 28, 154, 0, 46, 21, 5, 4, 160, 0, 17, 27]
abbrev dktX52_isBarred_1 : List UInt8 := dkwX52_isBarred_1 ++ dktX52_isBarred_2
def dkwX52_isBarred_0 : List UInt8 := [3, 61, 3, 62, 29, 42, 180, 0, 76, 162, 0, 91, 3, 54, 4, 21, 4, 29, 162, 0, 76, 42]
abbrev dktX52_isBarred_0 : List UInt8 := dkwX52_isBarred_0 ++ dktX52_isBarred_1
theorem dksX52_isBarred_0 : cX52_isBarred.data.toList.drop 0 = dktX52_isBarred_0 := by decide +kernel
theorem dksX52_isBarred_1 : cX52_isBarred.data.toList.drop 22 = dktX52_isBarred_1 := dk_seg dksX52_isBarred_0 22 rfl rfl
theorem dksX52_isBarred_2 : cX52_isBarred.data.toList.drop 46 = dktX52_isBarred_2 := dk_seg dksX52_isBarred_1 24 rfl rfl
theorem dksX52_isBarred_3 : cX52_isBarred.data.toList.drop 70 = dktX52_isBarred_3 := dk_seg dksX52_isBarred_2 24 rfl rfl
theorem dksX52_isBarred_4 : cX52_isBarred.data.toList.drop 94 = dktX52_isBarred_4 := dk_seg dksX52_isBarred_3 24 rfl rfl
theorem dX52_isBarred_0 : decode cX52_isBarred 0 = .ok (.iconst 0, 1) := dk_3 (dk_at dksX52_isBarred_0 0 rfl rfl)
theorem dX52_isBarred_1 : decode cX52_isBarred 1 = .ok (.istore_n 2, 1) := dk_61 (dk_at dksX52_isBarred_0 1 rfl rfl)
theorem dX52_isBarred_2 : decode cX52_isBarred 2 = .ok (.iconst 0, 1) := dk_3 (dk_at dksX52_isBarred_0 2 rfl rfl)
theorem dX52_isBarred_3 : decode cX52_isBarred 3 = .ok (.istore_n 3, 1) := dk_62 (dk_at dksX52_isBarred_0 3 rfl rfl)
theorem dX52_isBarred_4 : decode cX52_isBarred 4 = .ok (.iload_n 3, 1) := dk_29 (dk_at dksX52_isBarred_0 4 rfl rfl)
theorem dX52_isBarred_5 : decode cX52_isBarred 5 = .ok (.aload_n 0, 1) := dk_42 (dk_at dksX52_isBarred_0 5 rfl rfl)
theorem dX52_isBarred_6 : decode cX52_isBarred 6 = .ok (.getfield 76, 3) := dk_180 0 76 (dk_at dksX52_isBarred_0 6 rfl rfl)
theorem dX52_isBarred_9 : decode cX52_isBarred 9 = .ok (.if_icmp .ge 91, 3) := dk_162 0 91 (dk_at dksX52_isBarred_0 9 rfl rfl)
theorem dX52_isBarred_12 : decode cX52_isBarred 12 = .ok (.iconst 0, 1) := dk_3 (dk_at dksX52_isBarred_0 12 rfl rfl)
theorem dX52_isBarred_13 : decode cX52_isBarred 13 = .ok (.istore 4, 2) := dk_54 4 (dk_at dksX52_isBarred_0 13 rfl rfl)
theorem dX52_isBarred_15 : decode cX52_isBarred 15 = .ok (.iload 4, 2) := dk_21 4 (dk_at dksX52_isBarred_0 15 rfl rfl)
theorem dX52_isBarred_17 : decode cX52_isBarred 17 = .ok (.iload_n 3, 1) := dk_29 (dk_at dksX52_isBarred_0 17 rfl rfl)
theorem dX52_isBarred_18 : decode cX52_isBarred 18 = .ok (.if_icmp .ge 76, 3) := dk_162 0 76 (dk_at dksX52_isBarred_0 18 rfl rfl)
theorem dX52_isBarred_21 : decode cX52_isBarred 21 = .ok (.aload_n 0, 1) := dk_42 (dk_at dksX52_isBarred_0 21 rfl rfl)
theorem dX52_isBarred_22 : decode cX52_isBarred 22 = .ok (.getfield 22, 3) := dk_180 0 22 (dk_at dksX52_isBarred_1 0 rfl rfl)
theorem dX52_isBarred_25 : decode cX52_isBarred 25 = .ok (.bipush 6, 2) := dk_16 6 (dk_at dksX52_isBarred_1 3 rfl rfl)
theorem dX52_isBarred_27 : decode cX52_isBarred 27 = .ok (.iload_n 3, 1) := dk_29 (dk_at dksX52_isBarred_1 5 rfl rfl)
theorem dX52_isBarred_28 : decode cX52_isBarred 28 = .ok (.imul, 1) := dk_104 (dk_at dksX52_isBarred_1 6 rfl rfl)
theorem dX52_isBarred_29 : decode cX52_isBarred 29 = .ok (.iload 4, 2) := dk_21 4 (dk_at dksX52_isBarred_1 7 rfl rfl)
theorem dX52_isBarred_31 : decode cX52_isBarred 31 = .ok (.iadd, 1) := dk_96 (dk_at dksX52_isBarred_1 9 rfl rfl)
theorem dX52_isBarred_32 : decode cX52_isBarred 32 = .ok (.iaload, 1) := dk_46 (dk_at dksX52_isBarred_1 10 rfl rfl)
theorem dX52_isBarred_33 : decode cX52_isBarred 33 = .ok (.istore 5, 2) := dk_54 5 (dk_at dksX52_isBarred_1 11 rfl rfl)
theorem dX52_isBarred_35 : decode cX52_isBarred 35 = .ok (.iload_n 2, 1) := dk_28 (dk_at dksX52_isBarred_1 13 rfl rfl)
theorem dX52_isBarred_36 : decode cX52_isBarred 36 = .ok (.ifCond .ne 46, 3) := dk_154 0 46 (dk_at dksX52_isBarred_1 14 rfl rfl)
theorem dX52_isBarred_39 : decode cX52_isBarred 39 = .ok (.iload 5, 2) := dk_21 5 (dk_at dksX52_isBarred_1 17 rfl rfl)
theorem dX52_isBarred_41 : decode cX52_isBarred 41 = .ok (.iconst 1, 1) := dk_4 (dk_at dksX52_isBarred_1 19 rfl rfl)
theorem dX52_isBarred_42 : decode cX52_isBarred 42 = .ok (.if_icmp .ne 17, 3) := dk_160 0 17 (dk_at dksX52_isBarred_1 20 rfl rfl)
theorem dX52_isBarred_45 : decode cX52_isBarred 45 = .ok (.iload_n 1, 1) := dk_27 (dk_at dksX52_isBarred_1 23 rfl rfl)
theorem dX52_isBarred_46 : decode cX52_isBarred 46 = .ok (.iload_n 3, 1) := dk_29 (dk_at dksX52_isBarred_2 0 rfl rfl)
theorem dX52_isBarred_47 : decode cX52_isBarred 47 = .ok (.invokestatic 116, 3) := dk_184 0 116 (dk_at dksX52_isBarred_2 1 rfl rfl)
theorem dX52_isBarred_50 : decode cX52_isBarred 50 = .ok (.iload_n 1, 1) := dk_27 (dk_at dksX52_isBarred_2 4 rfl rfl)
theorem dX52_isBarred_51 : decode cX52_isBarred 51 = .ok (.iload 4, 2) := dk_21 4 (dk_at dksX52_isBarred_2 5 rfl rfl)
theorem dX52_isBarred_53 : decode cX52_isBarred 53 = .ok (.invokestatic 116, 3) := dk_184 0 116 (dk_at dksX52_isBarred_2 7 rfl rfl)
theorem dX52_isBarred_56 : decode cX52_isBarred 56 = .ok (.if_icmp .ne 26, 3) := dk_160 0 26 (dk_at dksX52_isBarred_2 10 rfl rfl)
theorem dX52_isBarred_59 : decode cX52_isBarred 59 = .ok (.iload 5, 2) := dk_21 5 (dk_at dksX52_isBarred_2 13 rfl rfl)
theorem dX52_isBarred_61 : decode cX52_isBarred 61 = .ok (.iconst 2, 1) := dk_5 (dk_at dksX52_isBarred_2 15 rfl rfl)
theorem dX52_isBarred_62 : decode cX52_isBarred 62 = .ok (.if_icmp .ne 24, 3) := dk_160 0 24 (dk_at dksX52_isBarred_2 16 rfl rfl)
theorem dX52_isBarred_65 : decode cX52_isBarred 65 = .ok (.iload_n 1, 1) := dk_27 (dk_at dksX52_isBarred_2 19 rfl rfl)
theorem dX52_isBarred_66 : decode cX52_isBarred 66 = .ok (.iload_n 3, 1) := dk_29 (dk_at dksX52_isBarred_2 20 rfl rfl)
theorem dX52_isBarred_67 : decode cX52_isBarred 67 = .ok (.invokestatic 116, 3) := dk_184 0 116 (dk_at dksX52_isBarred_2 21 rfl rfl)
theorem dX52_isBarred_70 : decode cX52_isBarred 70 = .ok (.ifCond .eq 16, 3) := dk_153 0 16 (dk_at dksX52_isBarred_3 0 rfl rfl)
theorem dX52_isBarred_73 : decode cX52_isBarred 73 = .ok (.iload_n 1, 1) := dk_27 (dk_at dksX52_isBarred_3 3 rfl rfl)
theorem dX52_isBarred_74 : decode cX52_isBarred 74 = .ok (.iload 4, 2) := dk_21 4 (dk_at dksX52_isBarred_3 4 rfl rfl)
theorem dX52_isBarred_76 : decode cX52_isBarred 76 = .ok (.invokestatic 116, 3) := dk_184 0 116 (dk_at dksX52_isBarred_3 6 rfl rfl)
theorem dX52_isBarred_79 : decode cX52_isBarred 79 = .ok (.ifCond .eq 7, 3) := dk_153 0 7 (dk_at dksX52_isBarred_3 9 rfl rfl)
theorem dX52_isBarred_82 : decode cX52_isBarred 82 = .ok (.iconst 1, 1) := dk_4 (dk_at dksX52_isBarred_3 12 rfl rfl)
theorem dX52_isBarred_83 : decode cX52_isBarred 83 = .ok (.goto 4, 3) := dk_167 0 4 (dk_at dksX52_isBarred_3 13 rfl rfl)
theorem dX52_isBarred_86 : decode cX52_isBarred 86 = .ok (.iconst 0, 1) := dk_3 (dk_at dksX52_isBarred_3 16 rfl rfl)
theorem dX52_isBarred_87 : decode cX52_isBarred 87 = .ok (.istore_n 2, 1) := dk_61 (dk_at dksX52_isBarred_3 17 rfl rfl)
theorem dX52_isBarred_88 : decode cX52_isBarred 88 = .ok (.iinc 4 1, 3) := dk_132 4 1 (dk_at dksX52_isBarred_3 18 rfl rfl)
theorem dX52_isBarred_91 : decode cX52_isBarred 91 = .ok (.goto (-76), 3) := dk_167 255 180 (dk_at dksX52_isBarred_3 21 rfl rfl)
theorem dX52_isBarred_94 : decode cX52_isBarred 94 = .ok (.iinc 3 1, 3) := dk_132 3 1 (dk_at dksX52_isBarred_4 0 rfl rfl)
theorem dX52_isBarred_97 : decode cX52_isBarred 97 = .ok (.goto (-93), 3) := dk_167 255 163 (dk_at dksX52_isBarred_4 3 rfl rfl)
theorem dX52_isBarred_100 : decode cX52_isBarred 100 = .ok (.iload_n 2, 1) := dk_28 (dk_at dksX52_isBarred_4 6 rfl rfl)
theorem dX52_isBarred_101 : decode cX52_isBarred 101 = .ok (.ireturn, 1) := dk_172 (dk_at dksX52_isBarred_4 7 rfl rfl)
abbrev cX52_all : ByteArray := prog_63_method_19_code
def yX52_all : MethodName := ⟨RX52, "all", "()I"⟩
def dkwX52_all_0 : List UInt8 := [4, 42, 180, 0, 137, 120, 4, 100, 172]
abbrev dktX52_all_0 : List UInt8 := dkwX52_all_0 ++ []
theorem dksX52_all_0 : cX52_all.data.toList.drop 0 = dktX52_all_0 := by decide +kernel
theorem dX52_all_0 : decode cX52_all 0 = .ok (.iconst 1, 1) := dk_4 (dk_at dksX52_all_0 0 rfl rfl)
theorem dX52_all_1 : decode cX52_all 1 = .ok (.aload_n 0, 1) := dk_42 (dk_at dksX52_all_0 1 rfl rfl)
theorem dX52_all_2 : decode cX52_all 2 = .ok (.getfield 137, 3) := dk_180 0 137 (dk_at dksX52_all_0 2 rfl rfl)
theorem dX52_all_5 : decode cX52_all 5 = .ok (.ishl, 1) := dk_120 (dk_at dksX52_all_0 5 rfl rfl)
theorem dX52_all_6 : decode cX52_all 6 = .ok (.iconst 1, 1) := dk_4 (dk_at dksX52_all_0 6 rfl rfl)
theorem dX52_all_7 : decode cX52_all 7 = .ok (.isub, 1) := dk_100 (dk_at dksX52_all_0 7 rfl rfl)
theorem dX52_all_8 : decode cX52_all 8 = .ok (.ireturn, 1) := dk_172 (dk_at dksX52_all_0 8 rfl rfl)
abbrev cX52_solve : ByteArray := prog_63_method_30_code
def yX52_solve : MethodName := ⟨RX52, "solve", "(II)Z"⟩
def dkwX52_solve_3 : List UInt8 := [148, 153, 0, 5, 3, 172, 42, 182, 0, 188, 42, 3, 182, 0, 191, 42, 182, 0, 185, 4, 172]
abbrev dktX52_solve_3 : List UInt8 := dkwX52_solve_3 ++ []
def dkwX52_solve_2 : List UInt8 := [132, 3, 1, 167, 255, 208, 42, 27, 182, 0, 181, 42, 182, 0, 185, 42, 180, 0, 59, 17, 2, 63, 47, 9]
abbrev dktX52_solve_2 : List UInt8 := dkwX52_solve_2 ++ dktX52_solve_3
def dkwX52_solve_1 : List UInt8 := [155, 0, 22, 42, 180, 0, 41, 29, 51, 154, 0, 13, 29, 28, 126, 154, 0, 7, 4, 167, 0, 4, 3, 84]
abbrev dktX52_solve_1 : List UInt8 := dkwX52_solve_1 ++ dktX52_solve_2
def dkwX52_solve_0 : List UInt8 := [3, 62, 29, 16, 64, 162, 0, 48, 42, 180, 0, 69, 29, 29, 153, 0, 27, 42, 180, 0, 35, 29, 46]
abbrev dktX52_solve_0 : List UInt8 := dkwX52_solve_0 ++ dktX52_solve_1
theorem dksX52_solve_0 : cX52_solve.data.toList.drop 0 = dktX52_solve_0 := by decide +kernel
theorem dksX52_solve_1 : cX52_solve.data.toList.drop 23 = dktX52_solve_1 := dk_seg dksX52_solve_0 23 rfl rfl
theorem dksX52_solve_2 : cX52_solve.data.toList.drop 47 = dktX52_solve_2 := dk_seg dksX52_solve_1 24 rfl rfl
theorem dksX52_solve_3 : cX52_solve.data.toList.drop 71 = dktX52_solve_3 := dk_seg dksX52_solve_2 24 rfl rfl
theorem dX52_solve_0 : decode cX52_solve 0 = .ok (.iconst 0, 1) := dk_3 (dk_at dksX52_solve_0 0 rfl rfl)
theorem dX52_solve_1 : decode cX52_solve 1 = .ok (.istore_n 3, 1) := dk_62 (dk_at dksX52_solve_0 1 rfl rfl)
theorem dX52_solve_2 : decode cX52_solve 2 = .ok (.iload_n 3, 1) := dk_29 (dk_at dksX52_solve_0 2 rfl rfl)
theorem dX52_solve_3 : decode cX52_solve 3 = .ok (.bipush 64, 2) := dk_16 64 (dk_at dksX52_solve_0 3 rfl rfl)
theorem dX52_solve_5 : decode cX52_solve 5 = .ok (.if_icmp .ge 48, 3) := dk_162 0 48 (dk_at dksX52_solve_0 5 rfl rfl)
theorem dX52_solve_8 : decode cX52_solve 8 = .ok (.aload_n 0, 1) := dk_42 (dk_at dksX52_solve_0 8 rfl rfl)
theorem dX52_solve_9 : decode cX52_solve 9 = .ok (.getfield 69, 3) := dk_180 0 69 (dk_at dksX52_solve_0 9 rfl rfl)
theorem dX52_solve_12 : decode cX52_solve 12 = .ok (.iload_n 3, 1) := dk_29 (dk_at dksX52_solve_0 12 rfl rfl)
theorem dX52_solve_13 : decode cX52_solve 13 = .ok (.iload_n 3, 1) := dk_29 (dk_at dksX52_solve_0 13 rfl rfl)
theorem dX52_solve_14 : decode cX52_solve 14 = .ok (.ifCond .eq 27, 3) := dk_153 0 27 (dk_at dksX52_solve_0 14 rfl rfl)
theorem dX52_solve_17 : decode cX52_solve 17 = .ok (.aload_n 0, 1) := dk_42 (dk_at dksX52_solve_0 17 rfl rfl)
theorem dX52_solve_18 : decode cX52_solve 18 = .ok (.getfield 35, 3) := dk_180 0 35 (dk_at dksX52_solve_0 18 rfl rfl)
theorem dX52_solve_21 : decode cX52_solve 21 = .ok (.iload_n 3, 1) := dk_29 (dk_at dksX52_solve_0 21 rfl rfl)
theorem dX52_solve_22 : decode cX52_solve 22 = .ok (.iaload, 1) := dk_46 (dk_at dksX52_solve_0 22 rfl rfl)
theorem dX52_solve_23 : decode cX52_solve 23 = .ok (.ifCond .lt 22, 3) := dk_155 0 22 (dk_at dksX52_solve_1 0 rfl rfl)
theorem dX52_solve_26 : decode cX52_solve 26 = .ok (.aload_n 0, 1) := dk_42 (dk_at dksX52_solve_1 3 rfl rfl)
theorem dX52_solve_27 : decode cX52_solve 27 = .ok (.getfield 41, 3) := dk_180 0 41 (dk_at dksX52_solve_1 4 rfl rfl)
theorem dX52_solve_30 : decode cX52_solve 30 = .ok (.iload_n 3, 1) := dk_29 (dk_at dksX52_solve_1 7 rfl rfl)
theorem dX52_solve_31 : decode cX52_solve 31 = .ok (.baload, 1) := dk_51 (dk_at dksX52_solve_1 8 rfl rfl)
theorem dX52_solve_32 : decode cX52_solve 32 = .ok (.ifCond .ne 13, 3) := dk_154 0 13 (dk_at dksX52_solve_1 9 rfl rfl)
theorem dX52_solve_35 : decode cX52_solve 35 = .ok (.iload_n 3, 1) := dk_29 (dk_at dksX52_solve_1 12 rfl rfl)
theorem dX52_solve_36 : decode cX52_solve 36 = .ok (.iload_n 2, 1) := dk_28 (dk_at dksX52_solve_1 13 rfl rfl)
theorem dX52_solve_37 : decode cX52_solve 37 = .ok (.iand, 1) := dk_126 (dk_at dksX52_solve_1 14 rfl rfl)
theorem dX52_solve_38 : decode cX52_solve 38 = .ok (.ifCond .ne 7, 3) := dk_154 0 7 (dk_at dksX52_solve_1 15 rfl rfl)
theorem dX52_solve_41 : decode cX52_solve 41 = .ok (.iconst 1, 1) := dk_4 (dk_at dksX52_solve_1 18 rfl rfl)
theorem dX52_solve_42 : decode cX52_solve 42 = .ok (.goto 4, 3) := dk_167 0 4 (dk_at dksX52_solve_1 19 rfl rfl)
theorem dX52_solve_45 : decode cX52_solve 45 = .ok (.iconst 0, 1) := dk_3 (dk_at dksX52_solve_1 22 rfl rfl)
theorem dX52_solve_46 : decode cX52_solve 46 = .ok (.bastore, 1) := dk_84 (dk_at dksX52_solve_1 23 rfl rfl)
theorem dX52_solve_47 : decode cX52_solve 47 = .ok (.iinc 3 1, 3) := dk_132 3 1 (dk_at dksX52_solve_2 0 rfl rfl)
theorem dX52_solve_50 : decode cX52_solve 50 = .ok (.goto (-48), 3) := dk_167 255 208 (dk_at dksX52_solve_2 3 rfl rfl)
theorem dX52_solve_53 : decode cX52_solve 53 = .ok (.aload_n 0, 1) := dk_42 (dk_at dksX52_solve_2 6 rfl rfl)
theorem dX52_solve_54 : decode cX52_solve 54 = .ok (.iload_n 1, 1) := dk_27 (dk_at dksX52_solve_2 7 rfl rfl)
theorem dX52_solve_55 : decode cX52_solve 55 = .ok (.invokevirtual 181, 3) := dk_182 0 181 (dk_at dksX52_solve_2 8 rfl rfl)
theorem dX52_solve_58 : decode cX52_solve 58 = .ok (.aload_n 0, 1) := dk_42 (dk_at dksX52_solve_2 11 rfl rfl)
theorem dX52_solve_59 : decode cX52_solve 59 = .ok (.invokevirtual 185, 3) := dk_182 0 185 (dk_at dksX52_solve_2 12 rfl rfl)
theorem dX52_solve_62 : decode cX52_solve 62 = .ok (.aload_n 0, 1) := dk_42 (dk_at dksX52_solve_2 15 rfl rfl)
theorem dX52_solve_63 : decode cX52_solve 63 = .ok (.getfield 59, 3) := dk_180 0 59 (dk_at dksX52_solve_2 16 rfl rfl)
theorem dX52_solve_66 : decode cX52_solve 66 = .ok (.sipush 575, 3) := dk_17 2 63 (dk_at dksX52_solve_2 19 rfl rfl)
theorem dX52_solve_69 : decode cX52_solve 69 = .ok (.laload, 1) := dk_47 (dk_at dksX52_solve_2 22 rfl rfl)
theorem dX52_solve_70 : decode cX52_solve 70 = .ok (.lconst 0, 1) := dk_9 (dk_at dksX52_solve_2 23 rfl rfl)
theorem dX52_solve_71 : decode cX52_solve 71 = .ok (.lcmp, 1) := dk_148 (dk_at dksX52_solve_3 0 rfl rfl)
theorem dX52_solve_72 : decode cX52_solve 72 = .ok (.ifCond .eq 5, 3) := dk_153 0 5 (dk_at dksX52_solve_3 1 rfl rfl)
theorem dX52_solve_75 : decode cX52_solve 75 = .ok (.iconst 0, 1) := dk_3 (dk_at dksX52_solve_3 4 rfl rfl)
theorem dX52_solve_76 : decode cX52_solve 76 = .ok (.ireturn, 1) := dk_172 (dk_at dksX52_solve_3 5 rfl rfl)
theorem dX52_solve_77 : decode cX52_solve 77 = .ok (.aload_n 0, 1) := dk_42 (dk_at dksX52_solve_3 6 rfl rfl)
theorem dX52_solve_78 : decode cX52_solve 78 = .ok (.invokevirtual 188, 3) := dk_182 0 188 (dk_at dksX52_solve_3 7 rfl rfl)
theorem dX52_solve_81 : decode cX52_solve 81 = .ok (.aload_n 0, 1) := dk_42 (dk_at dksX52_solve_3 10 rfl rfl)
theorem dX52_solve_82 : decode cX52_solve 82 = .ok (.iconst 0, 1) := dk_3 (dk_at dksX52_solve_3 11 rfl rfl)
theorem dX52_solve_83 : decode cX52_solve 83 = .ok (.invokevirtual 191, 3) := dk_182 0 191 (dk_at dksX52_solve_3 12 rfl rfl)
theorem dX52_solve_86 : decode cX52_solve 86 = .ok (.aload_n 0, 1) := dk_42 (dk_at dksX52_solve_3 15 rfl rfl)
theorem dX52_solve_87 : decode cX52_solve 87 = .ok (.invokevirtual 185, 3) := dk_182 0 185 (dk_at dksX52_solve_3 16 rfl rfl)
theorem dX52_solve_90 : decode cX52_solve 90 = .ok (.iconst 1, 1) := dk_4 (dk_at dksX52_solve_3 19 rfl rfl)
theorem dX52_solve_91 : decode cX52_solve 91 = .ok (.ireturn, 1) := dk_172 (dk_at dksX52_solve_3 20 rfl rfl)
abbrev cX52_layOut : ByteArray := prog_63_method_27_code
def yX52_layOut : MethodName := ⟨RX52, "layOut", "(I)V"⟩
def dkwX52_layOut_11 : List UInt8 := [10, 182, 0, 160, 132, 3, 1, 167, 255, 203, 132, 2, 1, 167, 255, 189, 177]
abbrev dktX52_layOut_11 : List UInt8 := dkwX52_layOut_11 ++ []
def dkwX52_layOut_10 : List UInt8 := [29, 96, 42, 180, 0, 59, 17, 1, 248, 29, 96, 47, 42, 180, 0, 59, 16, 72, 28, 104, 29, 96, 47, 101]
abbrev dktX52_layOut_10 : List UInt8 := dkwX52_layOut_10 ++ dktX52_layOut_11
def dkwX52_layOut_9 : List UInt8 := [3, 62, 29, 16, 72, 162, 0, 53, 29, 16, 64, 161, 0, 9, 29, 16, 71, 160, 0, 35, 42, 17, 1, 248]
abbrev dktX52_layOut_9 : List UInt8 := dkwX52_layOut_9 ++ dktX52_layOut_10
def dkwX52_layOut_8 : List UInt8 := [42, 180, 0, 66, 28, 16, 64, 28, 96, 79, 132, 2, 1, 167, 255, 57, 3, 61, 28, 16, 7, 162, 0, 67]
abbrev dktX52_layOut_8 : List UInt8 := dkwX52_layOut_8 ++ dktX52_layOut_9
def dkwX52_layOut_7 : List UInt8 := [16, 72, 28, 104, 29, 96, 22, 5, 10, 182, 0, 160, 132, 3, 1, 167, 255, 87, 28, 16, 7, 162, 0, 13]
abbrev dktX52_layOut_7 : List UInt8 := dkwX52_layOut_7 ++ dktX52_layOut_8
def dkwX52_layOut_6 : List UInt8 := [160, 0, 11, 42, 180, 0, 143, 133, 167, 0, 13, 21, 4, 153, 0, 7, 10, 167, 0, 4, 9, 55, 5, 42]
abbrev dktX52_layOut_6 : List UInt8 := dkwX52_layOut_6 ++ dktX52_layOut_7
def dkwX52_layOut_5 : List UInt8 := [16, 64, 28, 96, 160, 0, 7, 4, 167, 0, 4, 3, 54, 4, 28, 16, 6, 160, 0, 17, 29, 16, 71]
abbrev dktX52_layOut_5 : List UInt8 := dkwX52_layOut_5 ++ dktX52_layOut_6
def dkwX52_layOut_4 : List UInt8 := [167, 0, 4, 3, 54, 4, 21, 4, 154, 0, 23, 28, 16, 6, 160, 0, 21, 29, 16, 64, 161, 0, 11, 29]
abbrev dktX52_layOut_4 : List UInt8 := dkwX52_layOut_4 ++ dktX52_layOut_5
def dkwX52_layOut_3 : List UInt8 := [16, 6, 162, 0, 23, 27, 28, 184, 0, 116, 154, 0, 15, 29, 16, 64, 28, 96, 160, 0, 7, 4]
abbrev dktX52_layOut_3 : List UInt8 := dkwX52_layOut_3 ++ dktX52_layOut_4
def dkwX52_layOut_2 : List UInt8 := [96, 159, 0, 9, 29, 16, 71, 160, 0, 7, 4, 167, 0, 4, 3, 54, 4, 21, 4, 154, 0, 25, 28]
abbrev dktX52_layOut_2 : List UInt8 := dkwX52_layOut_2 ++ dktX52_layOut_3
def dkwX52_layOut_1 : List UInt8 := [184, 0, 116, 153, 0, 35, 29, 16, 64, 162, 0, 11, 29, 28, 184, 0, 116, 154, 0, 17, 29, 16, 64, 28]
abbrev dktX52_layOut_1 : List UInt8 := dkwX52_layOut_1 ++ dktX52_layOut_2
def dkwX52_layOut_0 : List UInt8 := [3, 61, 28, 16, 7, 163, 0, 199, 3, 62, 29, 16, 72, 162, 0, 169, 28, 16, 6, 162, 0, 43, 27, 28]
abbrev dktX52_layOut_0 : List UInt8 := dkwX52_layOut_0 ++ dktX52_layOut_1
theorem dksX52_layOut_0 : cX52_layOut.data.toList.drop 0 = dktX52_layOut_0 := by decide +kernel
theorem dksX52_layOut_1 : cX52_layOut.data.toList.drop 24 = dktX52_layOut_1 := dk_seg dksX52_layOut_0 24 rfl rfl
theorem dksX52_layOut_2 : cX52_layOut.data.toList.drop 48 = dktX52_layOut_2 := dk_seg dksX52_layOut_1 24 rfl rfl
theorem dksX52_layOut_3 : cX52_layOut.data.toList.drop 71 = dktX52_layOut_3 := dk_seg dksX52_layOut_2 23 rfl rfl
theorem dksX52_layOut_4 : cX52_layOut.data.toList.drop 93 = dktX52_layOut_4 := dk_seg dksX52_layOut_3 22 rfl rfl
theorem dksX52_layOut_5 : cX52_layOut.data.toList.drop 117 = dktX52_layOut_5 := dk_seg dksX52_layOut_4 24 rfl rfl
theorem dksX52_layOut_6 : cX52_layOut.data.toList.drop 140 = dktX52_layOut_6 := dk_seg dksX52_layOut_5 23 rfl rfl
theorem dksX52_layOut_7 : cX52_layOut.data.toList.drop 164 = dktX52_layOut_7 := dk_seg dksX52_layOut_6 24 rfl rfl
theorem dksX52_layOut_8 : cX52_layOut.data.toList.drop 188 = dktX52_layOut_8 := dk_seg dksX52_layOut_7 24 rfl rfl
theorem dksX52_layOut_9 : cX52_layOut.data.toList.drop 212 = dktX52_layOut_9 := dk_seg dksX52_layOut_8 24 rfl rfl
theorem dksX52_layOut_10 : cX52_layOut.data.toList.drop 236 = dktX52_layOut_10 := dk_seg dksX52_layOut_9 24 rfl rfl
theorem dksX52_layOut_11 : cX52_layOut.data.toList.drop 260 = dktX52_layOut_11 := dk_seg dksX52_layOut_10 24 rfl rfl
theorem dX52_layOut_0 : decode cX52_layOut 0 = .ok (.iconst 0, 1) := dk_3 (dk_at dksX52_layOut_0 0 rfl rfl)
theorem dX52_layOut_1 : decode cX52_layOut 1 = .ok (.istore_n 2, 1) := dk_61 (dk_at dksX52_layOut_0 1 rfl rfl)
theorem dX52_layOut_2 : decode cX52_layOut 2 = .ok (.iload_n 2, 1) := dk_28 (dk_at dksX52_layOut_0 2 rfl rfl)
theorem dX52_layOut_3 : decode cX52_layOut 3 = .ok (.bipush 7, 2) := dk_16 7 (dk_at dksX52_layOut_0 3 rfl rfl)
theorem dX52_layOut_5 : decode cX52_layOut 5 = .ok (.if_icmp .gt 199, 3) := dk_163 0 199 (dk_at dksX52_layOut_0 5 rfl rfl)
theorem dX52_layOut_8 : decode cX52_layOut 8 = .ok (.iconst 0, 1) := dk_3 (dk_at dksX52_layOut_0 8 rfl rfl)
theorem dX52_layOut_9 : decode cX52_layOut 9 = .ok (.istore_n 3, 1) := dk_62 (dk_at dksX52_layOut_0 9 rfl rfl)
theorem dX52_layOut_10 : decode cX52_layOut 10 = .ok (.iload_n 3, 1) := dk_29 (dk_at dksX52_layOut_0 10 rfl rfl)
theorem dX52_layOut_11 : decode cX52_layOut 11 = .ok (.bipush 72, 2) := dk_16 72 (dk_at dksX52_layOut_0 11 rfl rfl)
theorem dX52_layOut_13 : decode cX52_layOut 13 = .ok (.if_icmp .ge 169, 3) := dk_162 0 169 (dk_at dksX52_layOut_0 13 rfl rfl)
theorem dX52_layOut_16 : decode cX52_layOut 16 = .ok (.iload_n 2, 1) := dk_28 (dk_at dksX52_layOut_0 16 rfl rfl)
theorem dX52_layOut_17 : decode cX52_layOut 17 = .ok (.bipush 6, 2) := dk_16 6 (dk_at dksX52_layOut_0 17 rfl rfl)
theorem dX52_layOut_19 : decode cX52_layOut 19 = .ok (.if_icmp .ge 43, 3) := dk_162 0 43 (dk_at dksX52_layOut_0 19 rfl rfl)
theorem dX52_layOut_22 : decode cX52_layOut 22 = .ok (.iload_n 1, 1) := dk_27 (dk_at dksX52_layOut_0 22 rfl rfl)
theorem dX52_layOut_23 : decode cX52_layOut 23 = .ok (.iload_n 2, 1) := dk_28 (dk_at dksX52_layOut_0 23 rfl rfl)
theorem dX52_layOut_24 : decode cX52_layOut 24 = .ok (.invokestatic 116, 3) := dk_184 0 116 (dk_at dksX52_layOut_1 0 rfl rfl)
theorem dX52_layOut_27 : decode cX52_layOut 27 = .ok (.ifCond .eq 35, 3) := dk_153 0 35 (dk_at dksX52_layOut_1 3 rfl rfl)
theorem dX52_layOut_30 : decode cX52_layOut 30 = .ok (.iload_n 3, 1) := dk_29 (dk_at dksX52_layOut_1 6 rfl rfl)
theorem dX52_layOut_31 : decode cX52_layOut 31 = .ok (.bipush 64, 2) := dk_16 64 (dk_at dksX52_layOut_1 7 rfl rfl)
theorem dX52_layOut_33 : decode cX52_layOut 33 = .ok (.if_icmp .ge 11, 3) := dk_162 0 11 (dk_at dksX52_layOut_1 9 rfl rfl)
theorem dX52_layOut_36 : decode cX52_layOut 36 = .ok (.iload_n 3, 1) := dk_29 (dk_at dksX52_layOut_1 12 rfl rfl)
theorem dX52_layOut_37 : decode cX52_layOut 37 = .ok (.iload_n 2, 1) := dk_28 (dk_at dksX52_layOut_1 13 rfl rfl)
theorem dX52_layOut_38 : decode cX52_layOut 38 = .ok (.invokestatic 116, 3) := dk_184 0 116 (dk_at dksX52_layOut_1 14 rfl rfl)
theorem dX52_layOut_41 : decode cX52_layOut 41 = .ok (.ifCond .ne 17, 3) := dk_154 0 17 (dk_at dksX52_layOut_1 17 rfl rfl)
theorem dX52_layOut_44 : decode cX52_layOut 44 = .ok (.iload_n 3, 1) := dk_29 (dk_at dksX52_layOut_1 20 rfl rfl)
theorem dX52_layOut_45 : decode cX52_layOut 45 = .ok (.bipush 64, 2) := dk_16 64 (dk_at dksX52_layOut_1 21 rfl rfl)
theorem dX52_layOut_47 : decode cX52_layOut 47 = .ok (.iload_n 2, 1) := dk_28 (dk_at dksX52_layOut_1 23 rfl rfl)
theorem dX52_layOut_48 : decode cX52_layOut 48 = .ok (.iadd, 1) := dk_96 (dk_at dksX52_layOut_2 0 rfl rfl)
theorem dX52_layOut_49 : decode cX52_layOut 49 = .ok (.if_icmp .eq 9, 3) := dk_159 0 9 (dk_at dksX52_layOut_2 1 rfl rfl)
theorem dX52_layOut_52 : decode cX52_layOut 52 = .ok (.iload_n 3, 1) := dk_29 (dk_at dksX52_layOut_2 4 rfl rfl)
theorem dX52_layOut_53 : decode cX52_layOut 53 = .ok (.bipush 71, 2) := dk_16 71 (dk_at dksX52_layOut_2 5 rfl rfl)
theorem dX52_layOut_55 : decode cX52_layOut 55 = .ok (.if_icmp .ne 7, 3) := dk_160 0 7 (dk_at dksX52_layOut_2 7 rfl rfl)
theorem dX52_layOut_58 : decode cX52_layOut 58 = .ok (.iconst 1, 1) := dk_4 (dk_at dksX52_layOut_2 10 rfl rfl)
theorem dX52_layOut_59 : decode cX52_layOut 59 = .ok (.goto 4, 3) := dk_167 0 4 (dk_at dksX52_layOut_2 11 rfl rfl)
theorem dX52_layOut_62 : decode cX52_layOut 62 = .ok (.iconst 0, 1) := dk_3 (dk_at dksX52_layOut_2 14 rfl rfl)
theorem dX52_layOut_63 : decode cX52_layOut 63 = .ok (.istore 4, 2) := dk_54 4 (dk_at dksX52_layOut_2 15 rfl rfl)
theorem dX52_layOut_65 : decode cX52_layOut 65 = .ok (.iload 4, 2) := dk_21 4 (dk_at dksX52_layOut_2 17 rfl rfl)
theorem dX52_layOut_67 : decode cX52_layOut 67 = .ok (.ifCond .ne 25, 3) := dk_154 0 25 (dk_at dksX52_layOut_2 19 rfl rfl)
theorem dX52_layOut_70 : decode cX52_layOut 70 = .ok (.iload_n 2, 1) := dk_28 (dk_at dksX52_layOut_2 22 rfl rfl)
theorem dX52_layOut_71 : decode cX52_layOut 71 = .ok (.bipush 6, 2) := dk_16 6 (dk_at dksX52_layOut_3 0 rfl rfl)
theorem dX52_layOut_73 : decode cX52_layOut 73 = .ok (.if_icmp .ge 23, 3) := dk_162 0 23 (dk_at dksX52_layOut_3 2 rfl rfl)
theorem dX52_layOut_76 : decode cX52_layOut 76 = .ok (.iload_n 1, 1) := dk_27 (dk_at dksX52_layOut_3 5 rfl rfl)
theorem dX52_layOut_77 : decode cX52_layOut 77 = .ok (.iload_n 2, 1) := dk_28 (dk_at dksX52_layOut_3 6 rfl rfl)
theorem dX52_layOut_78 : decode cX52_layOut 78 = .ok (.invokestatic 116, 3) := dk_184 0 116 (dk_at dksX52_layOut_3 7 rfl rfl)
theorem dX52_layOut_81 : decode cX52_layOut 81 = .ok (.ifCond .ne 15, 3) := dk_154 0 15 (dk_at dksX52_layOut_3 10 rfl rfl)
theorem dX52_layOut_84 : decode cX52_layOut 84 = .ok (.iload_n 3, 1) := dk_29 (dk_at dksX52_layOut_3 13 rfl rfl)
theorem dX52_layOut_85 : decode cX52_layOut 85 = .ok (.bipush 64, 2) := dk_16 64 (dk_at dksX52_layOut_3 14 rfl rfl)
theorem dX52_layOut_87 : decode cX52_layOut 87 = .ok (.iload_n 2, 1) := dk_28 (dk_at dksX52_layOut_3 16 rfl rfl)
theorem dX52_layOut_88 : decode cX52_layOut 88 = .ok (.iadd, 1) := dk_96 (dk_at dksX52_layOut_3 17 rfl rfl)
theorem dX52_layOut_89 : decode cX52_layOut 89 = .ok (.if_icmp .ne 7, 3) := dk_160 0 7 (dk_at dksX52_layOut_3 18 rfl rfl)
theorem dX52_layOut_92 : decode cX52_layOut 92 = .ok (.iconst 1, 1) := dk_4 (dk_at dksX52_layOut_3 21 rfl rfl)
theorem dX52_layOut_93 : decode cX52_layOut 93 = .ok (.goto 4, 3) := dk_167 0 4 (dk_at dksX52_layOut_4 0 rfl rfl)
theorem dX52_layOut_96 : decode cX52_layOut 96 = .ok (.iconst 0, 1) := dk_3 (dk_at dksX52_layOut_4 3 rfl rfl)
theorem dX52_layOut_97 : decode cX52_layOut 97 = .ok (.istore 4, 2) := dk_54 4 (dk_at dksX52_layOut_4 4 rfl rfl)
theorem dX52_layOut_99 : decode cX52_layOut 99 = .ok (.iload 4, 2) := dk_21 4 (dk_at dksX52_layOut_4 6 rfl rfl)
theorem dX52_layOut_101 : decode cX52_layOut 101 = .ok (.ifCond .ne 23, 3) := dk_154 0 23 (dk_at dksX52_layOut_4 8 rfl rfl)
theorem dX52_layOut_104 : decode cX52_layOut 104 = .ok (.iload_n 2, 1) := dk_28 (dk_at dksX52_layOut_4 11 rfl rfl)
theorem dX52_layOut_105 : decode cX52_layOut 105 = .ok (.bipush 6, 2) := dk_16 6 (dk_at dksX52_layOut_4 12 rfl rfl)
theorem dX52_layOut_107 : decode cX52_layOut 107 = .ok (.if_icmp .ne 21, 3) := dk_160 0 21 (dk_at dksX52_layOut_4 14 rfl rfl)
theorem dX52_layOut_110 : decode cX52_layOut 110 = .ok (.iload_n 3, 1) := dk_29 (dk_at dksX52_layOut_4 17 rfl rfl)
theorem dX52_layOut_111 : decode cX52_layOut 111 = .ok (.bipush 64, 2) := dk_16 64 (dk_at dksX52_layOut_4 18 rfl rfl)
theorem dX52_layOut_113 : decode cX52_layOut 113 = .ok (.if_icmp .lt 11, 3) := dk_161 0 11 (dk_at dksX52_layOut_4 20 rfl rfl)
theorem dX52_layOut_116 : decode cX52_layOut 116 = .ok (.iload_n 3, 1) := dk_29 (dk_at dksX52_layOut_4 23 rfl rfl)
theorem dX52_layOut_117 : decode cX52_layOut 117 = .ok (.bipush 64, 2) := dk_16 64 (dk_at dksX52_layOut_5 0 rfl rfl)
theorem dX52_layOut_119 : decode cX52_layOut 119 = .ok (.iload_n 2, 1) := dk_28 (dk_at dksX52_layOut_5 2 rfl rfl)
theorem dX52_layOut_120 : decode cX52_layOut 120 = .ok (.iadd, 1) := dk_96 (dk_at dksX52_layOut_5 3 rfl rfl)
theorem dX52_layOut_121 : decode cX52_layOut 121 = .ok (.if_icmp .ne 7, 3) := dk_160 0 7 (dk_at dksX52_layOut_5 4 rfl rfl)
theorem dX52_layOut_124 : decode cX52_layOut 124 = .ok (.iconst 1, 1) := dk_4 (dk_at dksX52_layOut_5 7 rfl rfl)
theorem dX52_layOut_125 : decode cX52_layOut 125 = .ok (.goto 4, 3) := dk_167 0 4 (dk_at dksX52_layOut_5 8 rfl rfl)
theorem dX52_layOut_128 : decode cX52_layOut 128 = .ok (.iconst 0, 1) := dk_3 (dk_at dksX52_layOut_5 11 rfl rfl)
theorem dX52_layOut_129 : decode cX52_layOut 129 = .ok (.istore 4, 2) := dk_54 4 (dk_at dksX52_layOut_5 12 rfl rfl)
theorem dX52_layOut_131 : decode cX52_layOut 131 = .ok (.iload_n 2, 1) := dk_28 (dk_at dksX52_layOut_5 14 rfl rfl)
theorem dX52_layOut_132 : decode cX52_layOut 132 = .ok (.bipush 6, 2) := dk_16 6 (dk_at dksX52_layOut_5 15 rfl rfl)
theorem dX52_layOut_134 : decode cX52_layOut 134 = .ok (.if_icmp .ne 17, 3) := dk_160 0 17 (dk_at dksX52_layOut_5 17 rfl rfl)
theorem dX52_layOut_137 : decode cX52_layOut 137 = .ok (.iload_n 3, 1) := dk_29 (dk_at dksX52_layOut_5 20 rfl rfl)
theorem dX52_layOut_138 : decode cX52_layOut 138 = .ok (.bipush 71, 2) := dk_16 71 (dk_at dksX52_layOut_5 21 rfl rfl)
theorem dX52_layOut_140 : decode cX52_layOut 140 = .ok (.if_icmp .ne 11, 3) := dk_160 0 11 (dk_at dksX52_layOut_6 0 rfl rfl)
theorem dX52_layOut_143 : decode cX52_layOut 143 = .ok (.aload_n 0, 1) := dk_42 (dk_at dksX52_layOut_6 3 rfl rfl)
theorem dX52_layOut_144 : decode cX52_layOut 144 = .ok (.getfield 143, 3) := dk_180 0 143 (dk_at dksX52_layOut_6 4 rfl rfl)
theorem dX52_layOut_147 : decode cX52_layOut 147 = .ok (.i2l, 1) := dk_133 (dk_at dksX52_layOut_6 7 rfl rfl)
theorem dX52_layOut_148 : decode cX52_layOut 148 = .ok (.goto 13, 3) := dk_167 0 13 (dk_at dksX52_layOut_6 8 rfl rfl)
theorem dX52_layOut_151 : decode cX52_layOut 151 = .ok (.iload 4, 2) := dk_21 4 (dk_at dksX52_layOut_6 11 rfl rfl)
theorem dX52_layOut_153 : decode cX52_layOut 153 = .ok (.ifCond .eq 7, 3) := dk_153 0 7 (dk_at dksX52_layOut_6 13 rfl rfl)
theorem dX52_layOut_156 : decode cX52_layOut 156 = .ok (.lconst 1, 1) := dk_10 (dk_at dksX52_layOut_6 16 rfl rfl)
theorem dX52_layOut_157 : decode cX52_layOut 157 = .ok (.goto 4, 3) := dk_167 0 4 (dk_at dksX52_layOut_6 17 rfl rfl)
theorem dX52_layOut_160 : decode cX52_layOut 160 = .ok (.lconst 0, 1) := dk_9 (dk_at dksX52_layOut_6 20 rfl rfl)
theorem dX52_layOut_161 : decode cX52_layOut 161 = .ok (.lstore 5, 2) := dk_55 5 (dk_at dksX52_layOut_6 21 rfl rfl)
theorem dX52_layOut_163 : decode cX52_layOut 163 = .ok (.aload_n 0, 1) := dk_42 (dk_at dksX52_layOut_6 23 rfl rfl)
theorem dX52_layOut_164 : decode cX52_layOut 164 = .ok (.bipush 72, 2) := dk_16 72 (dk_at dksX52_layOut_7 0 rfl rfl)
theorem dX52_layOut_166 : decode cX52_layOut 166 = .ok (.iload_n 2, 1) := dk_28 (dk_at dksX52_layOut_7 2 rfl rfl)
theorem dX52_layOut_167 : decode cX52_layOut 167 = .ok (.imul, 1) := dk_104 (dk_at dksX52_layOut_7 3 rfl rfl)
theorem dX52_layOut_168 : decode cX52_layOut 168 = .ok (.iload_n 3, 1) := dk_29 (dk_at dksX52_layOut_7 4 rfl rfl)
theorem dX52_layOut_169 : decode cX52_layOut 169 = .ok (.iadd, 1) := dk_96 (dk_at dksX52_layOut_7 5 rfl rfl)
theorem dX52_layOut_170 : decode cX52_layOut 170 = .ok (.lload 5, 2) := dk_22 5 (dk_at dksX52_layOut_7 6 rfl rfl)
theorem dX52_layOut_172 : decode cX52_layOut 172 = .ok (.lconst 1, 1) := dk_10 (dk_at dksX52_layOut_7 8 rfl rfl)
theorem dX52_layOut_173 : decode cX52_layOut 173 = .ok (.invokevirtual 160, 3) := dk_182 0 160 (dk_at dksX52_layOut_7 9 rfl rfl)
theorem dX52_layOut_176 : decode cX52_layOut 176 = .ok (.iinc 3 1, 3) := dk_132 3 1 (dk_at dksX52_layOut_7 12 rfl rfl)
theorem dX52_layOut_179 : decode cX52_layOut 179 = .ok (.goto (-169), 3) := dk_167 255 87 (dk_at dksX52_layOut_7 15 rfl rfl)
theorem dX52_layOut_182 : decode cX52_layOut 182 = .ok (.iload_n 2, 1) := dk_28 (dk_at dksX52_layOut_7 18 rfl rfl)
theorem dX52_layOut_183 : decode cX52_layOut 183 = .ok (.bipush 7, 2) := dk_16 7 (dk_at dksX52_layOut_7 19 rfl rfl)
theorem dX52_layOut_185 : decode cX52_layOut 185 = .ok (.if_icmp .ge 13, 3) := dk_162 0 13 (dk_at dksX52_layOut_7 21 rfl rfl)
theorem dX52_layOut_188 : decode cX52_layOut 188 = .ok (.aload_n 0, 1) := dk_42 (dk_at dksX52_layOut_8 0 rfl rfl)
theorem dX52_layOut_189 : decode cX52_layOut 189 = .ok (.getfield 66, 3) := dk_180 0 66 (dk_at dksX52_layOut_8 1 rfl rfl)
theorem dX52_layOut_192 : decode cX52_layOut 192 = .ok (.iload_n 2, 1) := dk_28 (dk_at dksX52_layOut_8 4 rfl rfl)
theorem dX52_layOut_193 : decode cX52_layOut 193 = .ok (.bipush 64, 2) := dk_16 64 (dk_at dksX52_layOut_8 5 rfl rfl)
theorem dX52_layOut_195 : decode cX52_layOut 195 = .ok (.iload_n 2, 1) := dk_28 (dk_at dksX52_layOut_8 7 rfl rfl)
theorem dX52_layOut_196 : decode cX52_layOut 196 = .ok (.iadd, 1) := dk_96 (dk_at dksX52_layOut_8 8 rfl rfl)
theorem dX52_layOut_197 : decode cX52_layOut 197 = .ok (.iastore, 1) := dk_79 (dk_at dksX52_layOut_8 9 rfl rfl)
theorem dX52_layOut_198 : decode cX52_layOut 198 = .ok (.iinc 2 1, 3) := dk_132 2 1 (dk_at dksX52_layOut_8 10 rfl rfl)
theorem dX52_layOut_201 : decode cX52_layOut 201 = .ok (.goto (-199), 3) := dk_167 255 57 (dk_at dksX52_layOut_8 13 rfl rfl)
theorem dX52_layOut_204 : decode cX52_layOut 204 = .ok (.iconst 0, 1) := dk_3 (dk_at dksX52_layOut_8 16 rfl rfl)
theorem dX52_layOut_205 : decode cX52_layOut 205 = .ok (.istore_n 2, 1) := dk_61 (dk_at dksX52_layOut_8 17 rfl rfl)
theorem dX52_layOut_206 : decode cX52_layOut 206 = .ok (.iload_n 2, 1) := dk_28 (dk_at dksX52_layOut_8 18 rfl rfl)
theorem dX52_layOut_207 : decode cX52_layOut 207 = .ok (.bipush 7, 2) := dk_16 7 (dk_at dksX52_layOut_8 19 rfl rfl)
theorem dX52_layOut_209 : decode cX52_layOut 209 = .ok (.if_icmp .ge 67, 3) := dk_162 0 67 (dk_at dksX52_layOut_8 21 rfl rfl)
theorem dX52_layOut_212 : decode cX52_layOut 212 = .ok (.iconst 0, 1) := dk_3 (dk_at dksX52_layOut_9 0 rfl rfl)
theorem dX52_layOut_213 : decode cX52_layOut 213 = .ok (.istore_n 3, 1) := dk_62 (dk_at dksX52_layOut_9 1 rfl rfl)
theorem dX52_layOut_214 : decode cX52_layOut 214 = .ok (.iload_n 3, 1) := dk_29 (dk_at dksX52_layOut_9 2 rfl rfl)
theorem dX52_layOut_215 : decode cX52_layOut 215 = .ok (.bipush 72, 2) := dk_16 72 (dk_at dksX52_layOut_9 3 rfl rfl)
theorem dX52_layOut_217 : decode cX52_layOut 217 = .ok (.if_icmp .ge 53, 3) := dk_162 0 53 (dk_at dksX52_layOut_9 5 rfl rfl)
theorem dX52_layOut_220 : decode cX52_layOut 220 = .ok (.iload_n 3, 1) := dk_29 (dk_at dksX52_layOut_9 8 rfl rfl)
theorem dX52_layOut_221 : decode cX52_layOut 221 = .ok (.bipush 64, 2) := dk_16 64 (dk_at dksX52_layOut_9 9 rfl rfl)
theorem dX52_layOut_223 : decode cX52_layOut 223 = .ok (.if_icmp .lt 9, 3) := dk_161 0 9 (dk_at dksX52_layOut_9 11 rfl rfl)
theorem dX52_layOut_226 : decode cX52_layOut 226 = .ok (.iload_n 3, 1) := dk_29 (dk_at dksX52_layOut_9 14 rfl rfl)
theorem dX52_layOut_227 : decode cX52_layOut 227 = .ok (.bipush 71, 2) := dk_16 71 (dk_at dksX52_layOut_9 15 rfl rfl)
theorem dX52_layOut_229 : decode cX52_layOut 229 = .ok (.if_icmp .ne 35, 3) := dk_160 0 35 (dk_at dksX52_layOut_9 17 rfl rfl)
theorem dX52_layOut_232 : decode cX52_layOut 232 = .ok (.aload_n 0, 1) := dk_42 (dk_at dksX52_layOut_9 20 rfl rfl)
theorem dX52_layOut_233 : decode cX52_layOut 233 = .ok (.sipush 504, 3) := dk_17 1 248 (dk_at dksX52_layOut_9 21 rfl rfl)
theorem dX52_layOut_236 : decode cX52_layOut 236 = .ok (.iload_n 3, 1) := dk_29 (dk_at dksX52_layOut_10 0 rfl rfl)
theorem dX52_layOut_237 : decode cX52_layOut 237 = .ok (.iadd, 1) := dk_96 (dk_at dksX52_layOut_10 1 rfl rfl)
theorem dX52_layOut_238 : decode cX52_layOut 238 = .ok (.aload_n 0, 1) := dk_42 (dk_at dksX52_layOut_10 2 rfl rfl)
theorem dX52_layOut_239 : decode cX52_layOut 239 = .ok (.getfield 59, 3) := dk_180 0 59 (dk_at dksX52_layOut_10 3 rfl rfl)
theorem dX52_layOut_242 : decode cX52_layOut 242 = .ok (.sipush 504, 3) := dk_17 1 248 (dk_at dksX52_layOut_10 6 rfl rfl)
theorem dX52_layOut_245 : decode cX52_layOut 245 = .ok (.iload_n 3, 1) := dk_29 (dk_at dksX52_layOut_10 9 rfl rfl)
theorem dX52_layOut_246 : decode cX52_layOut 246 = .ok (.iadd, 1) := dk_96 (dk_at dksX52_layOut_10 10 rfl rfl)
theorem dX52_layOut_247 : decode cX52_layOut 247 = .ok (.laload, 1) := dk_47 (dk_at dksX52_layOut_10 11 rfl rfl)
theorem dX52_layOut_248 : decode cX52_layOut 248 = .ok (.aload_n 0, 1) := dk_42 (dk_at dksX52_layOut_10 12 rfl rfl)
theorem dX52_layOut_249 : decode cX52_layOut 249 = .ok (.getfield 59, 3) := dk_180 0 59 (dk_at dksX52_layOut_10 13 rfl rfl)
theorem dX52_layOut_252 : decode cX52_layOut 252 = .ok (.bipush 72, 2) := dk_16 72 (dk_at dksX52_layOut_10 16 rfl rfl)
theorem dX52_layOut_254 : decode cX52_layOut 254 = .ok (.iload_n 2, 1) := dk_28 (dk_at dksX52_layOut_10 18 rfl rfl)
theorem dX52_layOut_255 : decode cX52_layOut 255 = .ok (.imul, 1) := dk_104 (dk_at dksX52_layOut_10 19 rfl rfl)
theorem dX52_layOut_256 : decode cX52_layOut 256 = .ok (.iload_n 3, 1) := dk_29 (dk_at dksX52_layOut_10 20 rfl rfl)
theorem dX52_layOut_257 : decode cX52_layOut 257 = .ok (.iadd, 1) := dk_96 (dk_at dksX52_layOut_10 21 rfl rfl)
theorem dX52_layOut_258 : decode cX52_layOut 258 = .ok (.laload, 1) := dk_47 (dk_at dksX52_layOut_10 22 rfl rfl)
theorem dX52_layOut_259 : decode cX52_layOut 259 = .ok (.lsub, 1) := dk_101 (dk_at dksX52_layOut_10 23 rfl rfl)
theorem dX52_layOut_260 : decode cX52_layOut 260 = .ok (.lconst 1, 1) := dk_10 (dk_at dksX52_layOut_11 0 rfl rfl)
theorem dX52_layOut_261 : decode cX52_layOut 261 = .ok (.invokevirtual 160, 3) := dk_182 0 160 (dk_at dksX52_layOut_11 1 rfl rfl)
theorem dX52_layOut_264 : decode cX52_layOut 264 = .ok (.iinc 3 1, 3) := dk_132 3 1 (dk_at dksX52_layOut_11 4 rfl rfl)
theorem dX52_layOut_267 : decode cX52_layOut 267 = .ok (.goto (-53), 3) := dk_167 255 203 (dk_at dksX52_layOut_11 7 rfl rfl)
theorem dX52_layOut_270 : decode cX52_layOut 270 = .ok (.iinc 2 1, 3) := dk_132 2 1 (dk_at dksX52_layOut_11 10 rfl rfl)
theorem dX52_layOut_273 : decode cX52_layOut 273 = .ok (.goto (-67), 3) := dk_167 255 189 (dk_at dksX52_layOut_11 13 rfl rfl)
theorem dX52_layOut_276 : decode cX52_layOut 276 = .ok (.return_, 1) := dk_177 (dk_at dksX52_layOut_11 16 rfl rfl)
abbrev cX52_put : ByteArray := prog_63_method_21_code
def yX52_put : MethodName := ⟨RX52, "put", "(IJJ)V"⟩
def dkwX52_put_1 : List UInt8 := [22, 4, 22, 6, 109, 80, 177]
abbrev dktX52_put_1 : List UInt8 := dkwX52_put_1 ++ []
def dkwX52_put_0 : List UInt8 := [32, 22, 4, 184, 0, 156, 55, 6, 42, 180, 0, 59, 27, 32, 22, 6, 109, 80, 42, 180, 0, 63, 27]
abbrev dktX52_put_0 : List UInt8 := dkwX52_put_0 ++ dktX52_put_1
theorem dksX52_put_0 : cX52_put.data.toList.drop 0 = dktX52_put_0 := by decide +kernel
theorem dksX52_put_1 : cX52_put.data.toList.drop 23 = dktX52_put_1 := dk_seg dksX52_put_0 23 rfl rfl
theorem dX52_put_0 : decode cX52_put 0 = .ok (.lload_n 2, 1) := dk_32 (dk_at dksX52_put_0 0 rfl rfl)
theorem dX52_put_1 : decode cX52_put 1 = .ok (.lload 4, 2) := dk_22 4 (dk_at dksX52_put_0 1 rfl rfl)
theorem dX52_put_3 : decode cX52_put 3 = .ok (.invokestatic 156, 3) := dk_184 0 156 (dk_at dksX52_put_0 3 rfl rfl)
theorem dX52_put_6 : decode cX52_put 6 = .ok (.lstore 6, 2) := dk_55 6 (dk_at dksX52_put_0 6 rfl rfl)
theorem dX52_put_8 : decode cX52_put 8 = .ok (.aload_n 0, 1) := dk_42 (dk_at dksX52_put_0 8 rfl rfl)
theorem dX52_put_9 : decode cX52_put 9 = .ok (.getfield 59, 3) := dk_180 0 59 (dk_at dksX52_put_0 9 rfl rfl)
theorem dX52_put_12 : decode cX52_put 12 = .ok (.iload_n 1, 1) := dk_27 (dk_at dksX52_put_0 12 rfl rfl)
theorem dX52_put_13 : decode cX52_put 13 = .ok (.lload_n 2, 1) := dk_32 (dk_at dksX52_put_0 13 rfl rfl)
theorem dX52_put_14 : decode cX52_put 14 = .ok (.lload 6, 2) := dk_22 6 (dk_at dksX52_put_0 14 rfl rfl)
theorem dX52_put_16 : decode cX52_put 16 = .ok (.ldiv, 1) := dk_109 (dk_at dksX52_put_0 16 rfl rfl)
theorem dX52_put_17 : decode cX52_put 17 = .ok (.lastore, 1) := dk_80 (dk_at dksX52_put_0 17 rfl rfl)
theorem dX52_put_18 : decode cX52_put 18 = .ok (.aload_n 0, 1) := dk_42 (dk_at dksX52_put_0 18 rfl rfl)
theorem dX52_put_19 : decode cX52_put 19 = .ok (.getfield 63, 3) := dk_180 0 63 (dk_at dksX52_put_0 19 rfl rfl)
theorem dX52_put_22 : decode cX52_put 22 = .ok (.iload_n 1, 1) := dk_27 (dk_at dksX52_put_0 22 rfl rfl)
theorem dX52_put_23 : decode cX52_put 23 = .ok (.lload 4, 2) := dk_22 4 (dk_at dksX52_put_1 0 rfl rfl)
theorem dX52_put_25 : decode cX52_put 25 = .ok (.lload 6, 2) := dk_22 6 (dk_at dksX52_put_1 2 rfl rfl)
theorem dX52_put_27 : decode cX52_put 27 = .ok (.ldiv, 1) := dk_109 (dk_at dksX52_put_1 4 rfl rfl)
theorem dX52_put_28 : decode cX52_put 28 = .ok (.lastore, 1) := dk_80 (dk_at dksX52_put_1 5 rfl rfl)
theorem dX52_put_29 : decode cX52_put 29 = .ok (.return_, 1) := dk_177 (dk_at dksX52_put_1 6 rfl rfl)
abbrev cX52_common : ByteArray := prog_63_method_20_code
def yX52_common : MethodName := ⟨RX52, "common", "(JJ)J"⟩
def dkwX52_common_1 : List UInt8 := [22, 6, 22, 4, 113, 55, 8, 22, 4, 55, 6, 22, 8, 55, 4, 167, 255, 234, 22, 6, 173]
abbrev dktX52_common_1 : List UInt8 := dkwX52_common_1 ++ []
def dkwX52_common_0 : List UInt8 := [30, 9, 148, 156, 0, 8, 30, 117, 167, 0, 4, 30, 55, 4, 32, 55, 6, 22, 4, 9, 148, 153, 0, 21]
abbrev dktX52_common_0 : List UInt8 := dkwX52_common_0 ++ dktX52_common_1
theorem dksX52_common_0 : cX52_common.data.toList.drop 0 = dktX52_common_0 := by decide +kernel
theorem dksX52_common_1 : cX52_common.data.toList.drop 24 = dktX52_common_1 := dk_seg dksX52_common_0 24 rfl rfl
theorem dX52_common_0 : decode cX52_common 0 = .ok (.lload_n 0, 1) := dk_30 (dk_at dksX52_common_0 0 rfl rfl)
theorem dX52_common_1 : decode cX52_common 1 = .ok (.lconst 0, 1) := dk_9 (dk_at dksX52_common_0 1 rfl rfl)
theorem dX52_common_2 : decode cX52_common 2 = .ok (.lcmp, 1) := dk_148 (dk_at dksX52_common_0 2 rfl rfl)
theorem dX52_common_3 : decode cX52_common 3 = .ok (.ifCond .ge 8, 3) := dk_156 0 8 (dk_at dksX52_common_0 3 rfl rfl)
theorem dX52_common_6 : decode cX52_common 6 = .ok (.lload_n 0, 1) := dk_30 (dk_at dksX52_common_0 6 rfl rfl)
theorem dX52_common_7 : decode cX52_common 7 = .ok (.lneg, 1) := dk_117 (dk_at dksX52_common_0 7 rfl rfl)
theorem dX52_common_8 : decode cX52_common 8 = .ok (.goto 4, 3) := dk_167 0 4 (dk_at dksX52_common_0 8 rfl rfl)
theorem dX52_common_11 : decode cX52_common 11 = .ok (.lload_n 0, 1) := dk_30 (dk_at dksX52_common_0 11 rfl rfl)
theorem dX52_common_12 : decode cX52_common 12 = .ok (.lstore 4, 2) := dk_55 4 (dk_at dksX52_common_0 12 rfl rfl)
theorem dX52_common_14 : decode cX52_common 14 = .ok (.lload_n 2, 1) := dk_32 (dk_at dksX52_common_0 14 rfl rfl)
theorem dX52_common_15 : decode cX52_common 15 = .ok (.lstore 6, 2) := dk_55 6 (dk_at dksX52_common_0 15 rfl rfl)
theorem dX52_common_17 : decode cX52_common 17 = .ok (.lload 4, 2) := dk_22 4 (dk_at dksX52_common_0 17 rfl rfl)
theorem dX52_common_19 : decode cX52_common 19 = .ok (.lconst 0, 1) := dk_9 (dk_at dksX52_common_0 19 rfl rfl)
theorem dX52_common_20 : decode cX52_common 20 = .ok (.lcmp, 1) := dk_148 (dk_at dksX52_common_0 20 rfl rfl)
theorem dX52_common_21 : decode cX52_common 21 = .ok (.ifCond .eq 21, 3) := dk_153 0 21 (dk_at dksX52_common_0 21 rfl rfl)
theorem dX52_common_24 : decode cX52_common 24 = .ok (.lload 6, 2) := dk_22 6 (dk_at dksX52_common_1 0 rfl rfl)
theorem dX52_common_26 : decode cX52_common 26 = .ok (.lload 4, 2) := dk_22 4 (dk_at dksX52_common_1 2 rfl rfl)
theorem dX52_common_28 : decode cX52_common 28 = .ok (.lrem, 1) := dk_113 (dk_at dksX52_common_1 4 rfl rfl)
theorem dX52_common_29 : decode cX52_common 29 = .ok (.lstore 8, 2) := dk_55 8 (dk_at dksX52_common_1 5 rfl rfl)
theorem dX52_common_31 : decode cX52_common 31 = .ok (.lload 4, 2) := dk_22 4 (dk_at dksX52_common_1 7 rfl rfl)
theorem dX52_common_33 : decode cX52_common 33 = .ok (.lstore 6, 2) := dk_55 6 (dk_at dksX52_common_1 9 rfl rfl)
theorem dX52_common_35 : decode cX52_common 35 = .ok (.lload 8, 2) := dk_22 8 (dk_at dksX52_common_1 11 rfl rfl)
theorem dX52_common_37 : decode cX52_common 37 = .ok (.lstore 4, 2) := dk_55 4 (dk_at dksX52_common_1 13 rfl rfl)
theorem dX52_common_39 : decode cX52_common 39 = .ok (.goto (-22), 3) := dk_167 255 234 (dk_at dksX52_common_1 15 rfl rfl)
theorem dX52_common_42 : decode cX52_common 42 = .ok (.lload 6, 2) := dk_22 6 (dk_at dksX52_common_1 18 rfl rfl)
theorem dX52_common_44 : decode cX52_common 44 = .ok (.lreturn, 1) := dk_173 (dk_at dksX52_common_1 20 rfl rfl)
abbrev cX52_settle : ByteArray := prog_63_method_26_code
def yX52_settle : MethodName := ⟨RX52, "settle", "()V"⟩
def dkwX52_settle_1 : List UInt8 := [167, 255, 237, 177]
abbrev dktX52_settle_1 : List UInt8 := dkwX52_settle_1 ++ []
def dkwX52_settle_0 : List UInt8 := [42, 182, 0, 168, 60, 27, 155, 0, 21, 42, 42, 27, 182, 0, 171, 27, 182, 0, 175, 42, 182, 0, 168, 60]
abbrev dktX52_settle_0 : List UInt8 := dkwX52_settle_0 ++ dktX52_settle_1
theorem dksX52_settle_0 : cX52_settle.data.toList.drop 0 = dktX52_settle_0 := by decide +kernel
theorem dksX52_settle_1 : cX52_settle.data.toList.drop 24 = dktX52_settle_1 := dk_seg dksX52_settle_0 24 rfl rfl
theorem dX52_settle_0 : decode cX52_settle 0 = .ok (.aload_n 0, 1) := dk_42 (dk_at dksX52_settle_0 0 rfl rfl)
theorem dX52_settle_1 : decode cX52_settle 1 = .ok (.invokevirtual 168, 3) := dk_182 0 168 (dk_at dksX52_settle_0 1 rfl rfl)
theorem dX52_settle_4 : decode cX52_settle 4 = .ok (.istore_n 1, 1) := dk_60 (dk_at dksX52_settle_0 4 rfl rfl)
theorem dX52_settle_5 : decode cX52_settle 5 = .ok (.iload_n 1, 1) := dk_27 (dk_at dksX52_settle_0 5 rfl rfl)
theorem dX52_settle_6 : decode cX52_settle 6 = .ok (.ifCond .lt 21, 3) := dk_155 0 21 (dk_at dksX52_settle_0 6 rfl rfl)
theorem dX52_settle_9 : decode cX52_settle 9 = .ok (.aload_n 0, 1) := dk_42 (dk_at dksX52_settle_0 9 rfl rfl)
theorem dX52_settle_10 : decode cX52_settle 10 = .ok (.aload_n 0, 1) := dk_42 (dk_at dksX52_settle_0 10 rfl rfl)
theorem dX52_settle_11 : decode cX52_settle 11 = .ok (.iload_n 1, 1) := dk_27 (dk_at dksX52_settle_0 11 rfl rfl)
theorem dX52_settle_12 : decode cX52_settle 12 = .ok (.invokevirtual 171, 3) := dk_182 0 171 (dk_at dksX52_settle_0 12 rfl rfl)
theorem dX52_settle_15 : decode cX52_settle 15 = .ok (.iload_n 1, 1) := dk_27 (dk_at dksX52_settle_0 15 rfl rfl)
theorem dX52_settle_16 : decode cX52_settle 16 = .ok (.invokevirtual 175, 3) := dk_182 0 175 (dk_at dksX52_settle_0 16 rfl rfl)
theorem dX52_settle_19 : decode cX52_settle 19 = .ok (.aload_n 0, 1) := dk_42 (dk_at dksX52_settle_0 19 rfl rfl)
theorem dX52_settle_20 : decode cX52_settle 20 = .ok (.invokevirtual 168, 3) := dk_182 0 168 (dk_at dksX52_settle_0 20 rfl rfl)
theorem dX52_settle_23 : decode cX52_settle 23 = .ok (.istore_n 1, 1) := dk_60 (dk_at dksX52_settle_0 23 rfl rfl)
theorem dX52_settle_24 : decode cX52_settle 24 = .ok (.goto (-19), 3) := dk_167 255 237 (dk_at dksX52_settle_1 0 rfl rfl)
theorem dX52_settle_27 : decode cX52_settle 27 = .ok (.return_, 1) := dk_177 (dk_at dksX52_settle_1 3 rfl rfl)
abbrev cX52_coming : ByteArray := prog_63_method_24_code
def yX52_coming : MethodName := ⟨RX52, "coming", "()I"⟩
def dkwX52_coming_2 : List UInt8 := [2, 172]
abbrev dktX52_coming_2 : List UInt8 := dkwX52_coming_2 ++ []
def dkwX52_coming_1 : List UInt8 := [27, 96, 47, 9, 148, 155, 0, 9, 132, 1, 1, 167, 255, 223, 27, 16, 64, 162, 0, 7, 27, 167, 0, 4]
abbrev dktX52_coming_1 : List UInt8 := dkwX52_coming_1 ++ dktX52_coming_2
def dkwX52_coming_0 : List UInt8 := [3, 60, 27, 16, 64, 162, 0, 33, 42, 180, 0, 69, 27, 51, 153, 0, 18, 42, 180, 0, 59, 17, 1, 248]
abbrev dktX52_coming_0 : List UInt8 := dkwX52_coming_0 ++ dktX52_coming_1
theorem dksX52_coming_0 : cX52_coming.data.toList.drop 0 = dktX52_coming_0 := by decide +kernel
theorem dksX52_coming_1 : cX52_coming.data.toList.drop 24 = dktX52_coming_1 := dk_seg dksX52_coming_0 24 rfl rfl
theorem dksX52_coming_2 : cX52_coming.data.toList.drop 48 = dktX52_coming_2 := dk_seg dksX52_coming_1 24 rfl rfl
theorem dX52_coming_0 : decode cX52_coming 0 = .ok (.iconst 0, 1) := dk_3 (dk_at dksX52_coming_0 0 rfl rfl)
theorem dX52_coming_1 : decode cX52_coming 1 = .ok (.istore_n 1, 1) := dk_60 (dk_at dksX52_coming_0 1 rfl rfl)
theorem dX52_coming_2 : decode cX52_coming 2 = .ok (.iload_n 1, 1) := dk_27 (dk_at dksX52_coming_0 2 rfl rfl)
theorem dX52_coming_3 : decode cX52_coming 3 = .ok (.bipush 64, 2) := dk_16 64 (dk_at dksX52_coming_0 3 rfl rfl)
theorem dX52_coming_5 : decode cX52_coming 5 = .ok (.if_icmp .ge 33, 3) := dk_162 0 33 (dk_at dksX52_coming_0 5 rfl rfl)
theorem dX52_coming_8 : decode cX52_coming 8 = .ok (.aload_n 0, 1) := dk_42 (dk_at dksX52_coming_0 8 rfl rfl)
theorem dX52_coming_9 : decode cX52_coming 9 = .ok (.getfield 69, 3) := dk_180 0 69 (dk_at dksX52_coming_0 9 rfl rfl)
theorem dX52_coming_12 : decode cX52_coming 12 = .ok (.iload_n 1, 1) := dk_27 (dk_at dksX52_coming_0 12 rfl rfl)
theorem dX52_coming_13 : decode cX52_coming 13 = .ok (.baload, 1) := dk_51 (dk_at dksX52_coming_0 13 rfl rfl)
theorem dX52_coming_14 : decode cX52_coming 14 = .ok (.ifCond .eq 18, 3) := dk_153 0 18 (dk_at dksX52_coming_0 14 rfl rfl)
theorem dX52_coming_17 : decode cX52_coming 17 = .ok (.aload_n 0, 1) := dk_42 (dk_at dksX52_coming_0 17 rfl rfl)
theorem dX52_coming_18 : decode cX52_coming 18 = .ok (.getfield 59, 3) := dk_180 0 59 (dk_at dksX52_coming_0 18 rfl rfl)
theorem dX52_coming_21 : decode cX52_coming 21 = .ok (.sipush 504, 3) := dk_17 1 248 (dk_at dksX52_coming_0 21 rfl rfl)
theorem dX52_coming_24 : decode cX52_coming 24 = .ok (.iload_n 1, 1) := dk_27 (dk_at dksX52_coming_1 0 rfl rfl)
theorem dX52_coming_25 : decode cX52_coming 25 = .ok (.iadd, 1) := dk_96 (dk_at dksX52_coming_1 1 rfl rfl)
theorem dX52_coming_26 : decode cX52_coming 26 = .ok (.laload, 1) := dk_47 (dk_at dksX52_coming_1 2 rfl rfl)
theorem dX52_coming_27 : decode cX52_coming 27 = .ok (.lconst 0, 1) := dk_9 (dk_at dksX52_coming_1 3 rfl rfl)
theorem dX52_coming_28 : decode cX52_coming 28 = .ok (.lcmp, 1) := dk_148 (dk_at dksX52_coming_1 4 rfl rfl)
theorem dX52_coming_29 : decode cX52_coming 29 = .ok (.ifCond .lt 9, 3) := dk_155 0 9 (dk_at dksX52_coming_1 5 rfl rfl)
theorem dX52_coming_32 : decode cX52_coming 32 = .ok (.iinc 1 1, 3) := dk_132 1 1 (dk_at dksX52_coming_1 8 rfl rfl)
theorem dX52_coming_35 : decode cX52_coming 35 = .ok (.goto (-33), 3) := dk_167 255 223 (dk_at dksX52_coming_1 11 rfl rfl)
theorem dX52_coming_38 : decode cX52_coming 38 = .ok (.iload_n 1, 1) := dk_27 (dk_at dksX52_coming_1 14 rfl rfl)
theorem dX52_coming_39 : decode cX52_coming 39 = .ok (.bipush 64, 2) := dk_16 64 (dk_at dksX52_coming_1 15 rfl rfl)
theorem dX52_coming_41 : decode cX52_coming 41 = .ok (.if_icmp .ge 7, 3) := dk_162 0 7 (dk_at dksX52_coming_1 17 rfl rfl)
theorem dX52_coming_44 : decode cX52_coming 44 = .ok (.iload_n 1, 1) := dk_27 (dk_at dksX52_coming_1 20 rfl rfl)
theorem dX52_coming_45 : decode cX52_coming 45 = .ok (.goto 4, 3) := dk_167 0 4 (dk_at dksX52_coming_1 21 rfl rfl)
theorem dX52_coming_48 : decode cX52_coming 48 = .ok (.iconst (-1), 1) := dk_2 (dk_at dksX52_coming_2 0 rfl rfl)
theorem dX52_coming_49 : decode cX52_coming 49 = .ok (.ireturn, 1) := dk_172 (dk_at dksX52_coming_2 1 rfl rfl)
abbrev cX52_leaving : ByteArray := prog_63_method_25_code
def yX52_leaving : MethodName := ⟨RX52, "leaving", "(I)I"⟩
def dkwX52_leaving_9 : List UInt8 := [28, 172]
abbrev dktX52_leaving_9 : List UInt8 := dkwX52_leaving_9 ++ []
def dkwX52_leaving_8 : List UInt8 := [4, 167, 0, 4, 3, 54, 5, 21, 5, 153, 0, 7, 29, 167, 0, 4, 28, 61, 132, 3, 1, 167, 255, 54]
abbrev dktX52_leaving_8 : List UInt8 := dkwX52_leaving_8 ++ dktX52_leaving_9
def dkwX52_leaving_7 : List UInt8 := [22, 10, 22, 8, 105, 148, 154, 0, 22, 42, 180, 0, 66, 29, 46, 42, 180, 0, 66, 28, 46, 162, 0, 7]
abbrev dktX52_leaving_7 : List UInt8 := dkwX52_leaving_7 ++ dktX52_leaving_8
def dkwX52_leaving_6 : List UInt8 := [47, 105, 55, 12, 22, 6, 22, 12, 105, 22, 10, 22, 8, 105, 148, 155, 0, 32, 22, 6, 22, 12, 105]
abbrev dktX52_leaving_6 : List UInt8 := dkwX52_leaving_6 ++ dktX52_leaving_7
def dkwX52_leaving_5 : List UInt8 := [55, 10, 42, 180, 0, 63, 16, 72, 28, 104, 16, 71, 96, 47, 42, 180, 0, 59, 16, 72, 28, 104, 27, 96]
abbrev dktX52_leaving_5 : List UInt8 := dkwX52_leaving_5 ++ dktX52_leaving_6
def dkwX52_leaving_4 : List UInt8 := [180, 0, 59, 16, 72, 28, 104, 16, 71, 96, 47, 42, 180, 0, 63, 16, 72, 28, 104, 27, 96, 47, 105]
abbrev dktX52_leaving_4 : List UInt8 := dkwX52_leaving_4 ++ dktX52_leaving_5
def dkwX52_leaving_3 : List UInt8 := [180, 0, 63, 16, 72, 29, 104, 16, 71, 96, 47, 42, 180, 0, 59, 21, 4, 47, 105, 55, 8, 42]
abbrev dktX52_leaving_3 : List UInt8 := dkwX52_leaving_3 ++ dktX52_leaving_4
def dkwX52_leaving_2 : List UInt8 := [180, 0, 59, 16, 72, 29, 104, 16, 71, 96, 47, 42, 180, 0, 63, 21, 4, 47, 105, 55, 6, 42]
abbrev dktX52_leaving_2 : List UInt8 := dkwX52_leaving_2 ++ dktX52_leaving_3
def dkwX52_leaving_1 : List UInt8 := [47, 9, 148, 158, 0, 176, 28, 156, 0, 7, 4, 167, 0, 4, 3, 54, 5, 21, 5, 154, 0, 149, 42]
abbrev dktX52_leaving_1 : List UInt8 := dkwX52_leaving_1 ++ dktX52_leaving_2
def dkwX52_leaving_0 : List UInt8 := [2, 61, 3, 62, 29, 16, 7, 162, 0, 202, 16, 72, 29, 104, 27, 96, 54, 4, 42, 180, 0, 59, 21, 4]
abbrev dktX52_leaving_0 : List UInt8 := dkwX52_leaving_0 ++ dktX52_leaving_1
theorem dksX52_leaving_0 : cX52_leaving.data.toList.drop 0 = dktX52_leaving_0 := by decide +kernel
theorem dksX52_leaving_1 : cX52_leaving.data.toList.drop 24 = dktX52_leaving_1 := dk_seg dksX52_leaving_0 24 rfl rfl
theorem dksX52_leaving_2 : cX52_leaving.data.toList.drop 47 = dktX52_leaving_2 := dk_seg dksX52_leaving_1 23 rfl rfl
theorem dksX52_leaving_3 : cX52_leaving.data.toList.drop 69 = dktX52_leaving_3 := dk_seg dksX52_leaving_2 22 rfl rfl
theorem dksX52_leaving_4 : cX52_leaving.data.toList.drop 91 = dktX52_leaving_4 := dk_seg dksX52_leaving_3 22 rfl rfl
theorem dksX52_leaving_5 : cX52_leaving.data.toList.drop 114 = dktX52_leaving_5 := dk_seg dksX52_leaving_4 23 rfl rfl
theorem dksX52_leaving_6 : cX52_leaving.data.toList.drop 138 = dktX52_leaving_6 := dk_seg dksX52_leaving_5 24 rfl rfl
theorem dksX52_leaving_7 : cX52_leaving.data.toList.drop 161 = dktX52_leaving_7 := dk_seg dksX52_leaving_6 23 rfl rfl
theorem dksX52_leaving_8 : cX52_leaving.data.toList.drop 185 = dktX52_leaving_8 := dk_seg dksX52_leaving_7 24 rfl rfl
theorem dksX52_leaving_9 : cX52_leaving.data.toList.drop 209 = dktX52_leaving_9 := dk_seg dksX52_leaving_8 24 rfl rfl
theorem dX52_leaving_0 : decode cX52_leaving 0 = .ok (.iconst (-1), 1) := dk_2 (dk_at dksX52_leaving_0 0 rfl rfl)
theorem dX52_leaving_1 : decode cX52_leaving 1 = .ok (.istore_n 2, 1) := dk_61 (dk_at dksX52_leaving_0 1 rfl rfl)
theorem dX52_leaving_2 : decode cX52_leaving 2 = .ok (.iconst 0, 1) := dk_3 (dk_at dksX52_leaving_0 2 rfl rfl)
theorem dX52_leaving_3 : decode cX52_leaving 3 = .ok (.istore_n 3, 1) := dk_62 (dk_at dksX52_leaving_0 3 rfl rfl)
theorem dX52_leaving_4 : decode cX52_leaving 4 = .ok (.iload_n 3, 1) := dk_29 (dk_at dksX52_leaving_0 4 rfl rfl)
theorem dX52_leaving_5 : decode cX52_leaving 5 = .ok (.bipush 7, 2) := dk_16 7 (dk_at dksX52_leaving_0 5 rfl rfl)
theorem dX52_leaving_7 : decode cX52_leaving 7 = .ok (.if_icmp .ge 202, 3) := dk_162 0 202 (dk_at dksX52_leaving_0 7 rfl rfl)
theorem dX52_leaving_10 : decode cX52_leaving 10 = .ok (.bipush 72, 2) := dk_16 72 (dk_at dksX52_leaving_0 10 rfl rfl)
theorem dX52_leaving_12 : decode cX52_leaving 12 = .ok (.iload_n 3, 1) := dk_29 (dk_at dksX52_leaving_0 12 rfl rfl)
theorem dX52_leaving_13 : decode cX52_leaving 13 = .ok (.imul, 1) := dk_104 (dk_at dksX52_leaving_0 13 rfl rfl)
theorem dX52_leaving_14 : decode cX52_leaving 14 = .ok (.iload_n 1, 1) := dk_27 (dk_at dksX52_leaving_0 14 rfl rfl)
theorem dX52_leaving_15 : decode cX52_leaving 15 = .ok (.iadd, 1) := dk_96 (dk_at dksX52_leaving_0 15 rfl rfl)
theorem dX52_leaving_16 : decode cX52_leaving 16 = .ok (.istore 4, 2) := dk_54 4 (dk_at dksX52_leaving_0 16 rfl rfl)
theorem dX52_leaving_18 : decode cX52_leaving 18 = .ok (.aload_n 0, 1) := dk_42 (dk_at dksX52_leaving_0 18 rfl rfl)
theorem dX52_leaving_19 : decode cX52_leaving 19 = .ok (.getfield 59, 3) := dk_180 0 59 (dk_at dksX52_leaving_0 19 rfl rfl)
theorem dX52_leaving_22 : decode cX52_leaving 22 = .ok (.iload 4, 2) := dk_21 4 (dk_at dksX52_leaving_0 22 rfl rfl)
theorem dX52_leaving_24 : decode cX52_leaving 24 = .ok (.laload, 1) := dk_47 (dk_at dksX52_leaving_1 0 rfl rfl)
theorem dX52_leaving_25 : decode cX52_leaving 25 = .ok (.lconst 0, 1) := dk_9 (dk_at dksX52_leaving_1 1 rfl rfl)
theorem dX52_leaving_26 : decode cX52_leaving 26 = .ok (.lcmp, 1) := dk_148 (dk_at dksX52_leaving_1 2 rfl rfl)
theorem dX52_leaving_27 : decode cX52_leaving 27 = .ok (.ifCond .le 176, 3) := dk_158 0 176 (dk_at dksX52_leaving_1 3 rfl rfl)
theorem dX52_leaving_30 : decode cX52_leaving 30 = .ok (.iload_n 2, 1) := dk_28 (dk_at dksX52_leaving_1 6 rfl rfl)
theorem dX52_leaving_31 : decode cX52_leaving 31 = .ok (.ifCond .ge 7, 3) := dk_156 0 7 (dk_at dksX52_leaving_1 7 rfl rfl)
theorem dX52_leaving_34 : decode cX52_leaving 34 = .ok (.iconst 1, 1) := dk_4 (dk_at dksX52_leaving_1 10 rfl rfl)
theorem dX52_leaving_35 : decode cX52_leaving 35 = .ok (.goto 4, 3) := dk_167 0 4 (dk_at dksX52_leaving_1 11 rfl rfl)
theorem dX52_leaving_38 : decode cX52_leaving 38 = .ok (.iconst 0, 1) := dk_3 (dk_at dksX52_leaving_1 14 rfl rfl)
theorem dX52_leaving_39 : decode cX52_leaving 39 = .ok (.istore 5, 2) := dk_54 5 (dk_at dksX52_leaving_1 15 rfl rfl)
theorem dX52_leaving_41 : decode cX52_leaving 41 = .ok (.iload 5, 2) := dk_21 5 (dk_at dksX52_leaving_1 17 rfl rfl)
theorem dX52_leaving_43 : decode cX52_leaving 43 = .ok (.ifCond .ne 149, 3) := dk_154 0 149 (dk_at dksX52_leaving_1 19 rfl rfl)
theorem dX52_leaving_46 : decode cX52_leaving 46 = .ok (.aload_n 0, 1) := dk_42 (dk_at dksX52_leaving_1 22 rfl rfl)
theorem dX52_leaving_47 : decode cX52_leaving 47 = .ok (.getfield 59, 3) := dk_180 0 59 (dk_at dksX52_leaving_2 0 rfl rfl)
theorem dX52_leaving_50 : decode cX52_leaving 50 = .ok (.bipush 72, 2) := dk_16 72 (dk_at dksX52_leaving_2 3 rfl rfl)
theorem dX52_leaving_52 : decode cX52_leaving 52 = .ok (.iload_n 3, 1) := dk_29 (dk_at dksX52_leaving_2 5 rfl rfl)
theorem dX52_leaving_53 : decode cX52_leaving 53 = .ok (.imul, 1) := dk_104 (dk_at dksX52_leaving_2 6 rfl rfl)
theorem dX52_leaving_54 : decode cX52_leaving 54 = .ok (.bipush 71, 2) := dk_16 71 (dk_at dksX52_leaving_2 7 rfl rfl)
theorem dX52_leaving_56 : decode cX52_leaving 56 = .ok (.iadd, 1) := dk_96 (dk_at dksX52_leaving_2 9 rfl rfl)
theorem dX52_leaving_57 : decode cX52_leaving 57 = .ok (.laload, 1) := dk_47 (dk_at dksX52_leaving_2 10 rfl rfl)
theorem dX52_leaving_58 : decode cX52_leaving 58 = .ok (.aload_n 0, 1) := dk_42 (dk_at dksX52_leaving_2 11 rfl rfl)
theorem dX52_leaving_59 : decode cX52_leaving 59 = .ok (.getfield 63, 3) := dk_180 0 63 (dk_at dksX52_leaving_2 12 rfl rfl)
theorem dX52_leaving_62 : decode cX52_leaving 62 = .ok (.iload 4, 2) := dk_21 4 (dk_at dksX52_leaving_2 15 rfl rfl)
theorem dX52_leaving_64 : decode cX52_leaving 64 = .ok (.laload, 1) := dk_47 (dk_at dksX52_leaving_2 17 rfl rfl)
theorem dX52_leaving_65 : decode cX52_leaving 65 = .ok (.lmul, 1) := dk_105 (dk_at dksX52_leaving_2 18 rfl rfl)
theorem dX52_leaving_66 : decode cX52_leaving 66 = .ok (.lstore 6, 2) := dk_55 6 (dk_at dksX52_leaving_2 19 rfl rfl)
theorem dX52_leaving_68 : decode cX52_leaving 68 = .ok (.aload_n 0, 1) := dk_42 (dk_at dksX52_leaving_2 21 rfl rfl)
theorem dX52_leaving_69 : decode cX52_leaving 69 = .ok (.getfield 63, 3) := dk_180 0 63 (dk_at dksX52_leaving_3 0 rfl rfl)
theorem dX52_leaving_72 : decode cX52_leaving 72 = .ok (.bipush 72, 2) := dk_16 72 (dk_at dksX52_leaving_3 3 rfl rfl)
theorem dX52_leaving_74 : decode cX52_leaving 74 = .ok (.iload_n 3, 1) := dk_29 (dk_at dksX52_leaving_3 5 rfl rfl)
theorem dX52_leaving_75 : decode cX52_leaving 75 = .ok (.imul, 1) := dk_104 (dk_at dksX52_leaving_3 6 rfl rfl)
theorem dX52_leaving_76 : decode cX52_leaving 76 = .ok (.bipush 71, 2) := dk_16 71 (dk_at dksX52_leaving_3 7 rfl rfl)
theorem dX52_leaving_78 : decode cX52_leaving 78 = .ok (.iadd, 1) := dk_96 (dk_at dksX52_leaving_3 9 rfl rfl)
theorem dX52_leaving_79 : decode cX52_leaving 79 = .ok (.laload, 1) := dk_47 (dk_at dksX52_leaving_3 10 rfl rfl)
theorem dX52_leaving_80 : decode cX52_leaving 80 = .ok (.aload_n 0, 1) := dk_42 (dk_at dksX52_leaving_3 11 rfl rfl)
theorem dX52_leaving_81 : decode cX52_leaving 81 = .ok (.getfield 59, 3) := dk_180 0 59 (dk_at dksX52_leaving_3 12 rfl rfl)
theorem dX52_leaving_84 : decode cX52_leaving 84 = .ok (.iload 4, 2) := dk_21 4 (dk_at dksX52_leaving_3 15 rfl rfl)
theorem dX52_leaving_86 : decode cX52_leaving 86 = .ok (.laload, 1) := dk_47 (dk_at dksX52_leaving_3 17 rfl rfl)
theorem dX52_leaving_87 : decode cX52_leaving 87 = .ok (.lmul, 1) := dk_105 (dk_at dksX52_leaving_3 18 rfl rfl)
theorem dX52_leaving_88 : decode cX52_leaving 88 = .ok (.lstore 8, 2) := dk_55 8 (dk_at dksX52_leaving_3 19 rfl rfl)
theorem dX52_leaving_90 : decode cX52_leaving 90 = .ok (.aload_n 0, 1) := dk_42 (dk_at dksX52_leaving_3 21 rfl rfl)
theorem dX52_leaving_91 : decode cX52_leaving 91 = .ok (.getfield 59, 3) := dk_180 0 59 (dk_at dksX52_leaving_4 0 rfl rfl)
theorem dX52_leaving_94 : decode cX52_leaving 94 = .ok (.bipush 72, 2) := dk_16 72 (dk_at dksX52_leaving_4 3 rfl rfl)
theorem dX52_leaving_96 : decode cX52_leaving 96 = .ok (.iload_n 2, 1) := dk_28 (dk_at dksX52_leaving_4 5 rfl rfl)
theorem dX52_leaving_97 : decode cX52_leaving 97 = .ok (.imul, 1) := dk_104 (dk_at dksX52_leaving_4 6 rfl rfl)
theorem dX52_leaving_98 : decode cX52_leaving 98 = .ok (.bipush 71, 2) := dk_16 71 (dk_at dksX52_leaving_4 7 rfl rfl)
theorem dX52_leaving_100 : decode cX52_leaving 100 = .ok (.iadd, 1) := dk_96 (dk_at dksX52_leaving_4 9 rfl rfl)
theorem dX52_leaving_101 : decode cX52_leaving 101 = .ok (.laload, 1) := dk_47 (dk_at dksX52_leaving_4 10 rfl rfl)
theorem dX52_leaving_102 : decode cX52_leaving 102 = .ok (.aload_n 0, 1) := dk_42 (dk_at dksX52_leaving_4 11 rfl rfl)
theorem dX52_leaving_103 : decode cX52_leaving 103 = .ok (.getfield 63, 3) := dk_180 0 63 (dk_at dksX52_leaving_4 12 rfl rfl)
theorem dX52_leaving_106 : decode cX52_leaving 106 = .ok (.bipush 72, 2) := dk_16 72 (dk_at dksX52_leaving_4 15 rfl rfl)
theorem dX52_leaving_108 : decode cX52_leaving 108 = .ok (.iload_n 2, 1) := dk_28 (dk_at dksX52_leaving_4 17 rfl rfl)
theorem dX52_leaving_109 : decode cX52_leaving 109 = .ok (.imul, 1) := dk_104 (dk_at dksX52_leaving_4 18 rfl rfl)
theorem dX52_leaving_110 : decode cX52_leaving 110 = .ok (.iload_n 1, 1) := dk_27 (dk_at dksX52_leaving_4 19 rfl rfl)
theorem dX52_leaving_111 : decode cX52_leaving 111 = .ok (.iadd, 1) := dk_96 (dk_at dksX52_leaving_4 20 rfl rfl)
theorem dX52_leaving_112 : decode cX52_leaving 112 = .ok (.laload, 1) := dk_47 (dk_at dksX52_leaving_4 21 rfl rfl)
theorem dX52_leaving_113 : decode cX52_leaving 113 = .ok (.lmul, 1) := dk_105 (dk_at dksX52_leaving_4 22 rfl rfl)
theorem dX52_leaving_114 : decode cX52_leaving 114 = .ok (.lstore 10, 2) := dk_55 10 (dk_at dksX52_leaving_5 0 rfl rfl)
theorem dX52_leaving_116 : decode cX52_leaving 116 = .ok (.aload_n 0, 1) := dk_42 (dk_at dksX52_leaving_5 2 rfl rfl)
theorem dX52_leaving_117 : decode cX52_leaving 117 = .ok (.getfield 63, 3) := dk_180 0 63 (dk_at dksX52_leaving_5 3 rfl rfl)
theorem dX52_leaving_120 : decode cX52_leaving 120 = .ok (.bipush 72, 2) := dk_16 72 (dk_at dksX52_leaving_5 6 rfl rfl)
theorem dX52_leaving_122 : decode cX52_leaving 122 = .ok (.iload_n 2, 1) := dk_28 (dk_at dksX52_leaving_5 8 rfl rfl)
theorem dX52_leaving_123 : decode cX52_leaving 123 = .ok (.imul, 1) := dk_104 (dk_at dksX52_leaving_5 9 rfl rfl)
theorem dX52_leaving_124 : decode cX52_leaving 124 = .ok (.bipush 71, 2) := dk_16 71 (dk_at dksX52_leaving_5 10 rfl rfl)
theorem dX52_leaving_126 : decode cX52_leaving 126 = .ok (.iadd, 1) := dk_96 (dk_at dksX52_leaving_5 12 rfl rfl)
theorem dX52_leaving_127 : decode cX52_leaving 127 = .ok (.laload, 1) := dk_47 (dk_at dksX52_leaving_5 13 rfl rfl)
theorem dX52_leaving_128 : decode cX52_leaving 128 = .ok (.aload_n 0, 1) := dk_42 (dk_at dksX52_leaving_5 14 rfl rfl)
theorem dX52_leaving_129 : decode cX52_leaving 129 = .ok (.getfield 59, 3) := dk_180 0 59 (dk_at dksX52_leaving_5 15 rfl rfl)
theorem dX52_leaving_132 : decode cX52_leaving 132 = .ok (.bipush 72, 2) := dk_16 72 (dk_at dksX52_leaving_5 18 rfl rfl)
theorem dX52_leaving_134 : decode cX52_leaving 134 = .ok (.iload_n 2, 1) := dk_28 (dk_at dksX52_leaving_5 20 rfl rfl)
theorem dX52_leaving_135 : decode cX52_leaving 135 = .ok (.imul, 1) := dk_104 (dk_at dksX52_leaving_5 21 rfl rfl)
theorem dX52_leaving_136 : decode cX52_leaving 136 = .ok (.iload_n 1, 1) := dk_27 (dk_at dksX52_leaving_5 22 rfl rfl)
theorem dX52_leaving_137 : decode cX52_leaving 137 = .ok (.iadd, 1) := dk_96 (dk_at dksX52_leaving_5 23 rfl rfl)
theorem dX52_leaving_138 : decode cX52_leaving 138 = .ok (.laload, 1) := dk_47 (dk_at dksX52_leaving_6 0 rfl rfl)
theorem dX52_leaving_139 : decode cX52_leaving 139 = .ok (.lmul, 1) := dk_105 (dk_at dksX52_leaving_6 1 rfl rfl)
theorem dX52_leaving_140 : decode cX52_leaving 140 = .ok (.lstore 12, 2) := dk_55 12 (dk_at dksX52_leaving_6 2 rfl rfl)
theorem dX52_leaving_142 : decode cX52_leaving 142 = .ok (.lload 6, 2) := dk_22 6 (dk_at dksX52_leaving_6 4 rfl rfl)
theorem dX52_leaving_144 : decode cX52_leaving 144 = .ok (.lload 12, 2) := dk_22 12 (dk_at dksX52_leaving_6 6 rfl rfl)
theorem dX52_leaving_146 : decode cX52_leaving 146 = .ok (.lmul, 1) := dk_105 (dk_at dksX52_leaving_6 8 rfl rfl)
theorem dX52_leaving_147 : decode cX52_leaving 147 = .ok (.lload 10, 2) := dk_22 10 (dk_at dksX52_leaving_6 9 rfl rfl)
theorem dX52_leaving_149 : decode cX52_leaving 149 = .ok (.lload 8, 2) := dk_22 8 (dk_at dksX52_leaving_6 11 rfl rfl)
theorem dX52_leaving_151 : decode cX52_leaving 151 = .ok (.lmul, 1) := dk_105 (dk_at dksX52_leaving_6 13 rfl rfl)
theorem dX52_leaving_152 : decode cX52_leaving 152 = .ok (.lcmp, 1) := dk_148 (dk_at dksX52_leaving_6 14 rfl rfl)
theorem dX52_leaving_153 : decode cX52_leaving 153 = .ok (.ifCond .lt 32, 3) := dk_155 0 32 (dk_at dksX52_leaving_6 15 rfl rfl)
theorem dX52_leaving_156 : decode cX52_leaving 156 = .ok (.lload 6, 2) := dk_22 6 (dk_at dksX52_leaving_6 18 rfl rfl)
theorem dX52_leaving_158 : decode cX52_leaving 158 = .ok (.lload 12, 2) := dk_22 12 (dk_at dksX52_leaving_6 20 rfl rfl)
theorem dX52_leaving_160 : decode cX52_leaving 160 = .ok (.lmul, 1) := dk_105 (dk_at dksX52_leaving_6 22 rfl rfl)
theorem dX52_leaving_161 : decode cX52_leaving 161 = .ok (.lload 10, 2) := dk_22 10 (dk_at dksX52_leaving_7 0 rfl rfl)
theorem dX52_leaving_163 : decode cX52_leaving 163 = .ok (.lload 8, 2) := dk_22 8 (dk_at dksX52_leaving_7 2 rfl rfl)
theorem dX52_leaving_165 : decode cX52_leaving 165 = .ok (.lmul, 1) := dk_105 (dk_at dksX52_leaving_7 4 rfl rfl)
theorem dX52_leaving_166 : decode cX52_leaving 166 = .ok (.lcmp, 1) := dk_148 (dk_at dksX52_leaving_7 5 rfl rfl)
theorem dX52_leaving_167 : decode cX52_leaving 167 = .ok (.ifCond .ne 22, 3) := dk_154 0 22 (dk_at dksX52_leaving_7 6 rfl rfl)
theorem dX52_leaving_170 : decode cX52_leaving 170 = .ok (.aload_n 0, 1) := dk_42 (dk_at dksX52_leaving_7 9 rfl rfl)
theorem dX52_leaving_171 : decode cX52_leaving 171 = .ok (.getfield 66, 3) := dk_180 0 66 (dk_at dksX52_leaving_7 10 rfl rfl)
theorem dX52_leaving_174 : decode cX52_leaving 174 = .ok (.iload_n 3, 1) := dk_29 (dk_at dksX52_leaving_7 13 rfl rfl)
theorem dX52_leaving_175 : decode cX52_leaving 175 = .ok (.iaload, 1) := dk_46 (dk_at dksX52_leaving_7 14 rfl rfl)
theorem dX52_leaving_176 : decode cX52_leaving 176 = .ok (.aload_n 0, 1) := dk_42 (dk_at dksX52_leaving_7 15 rfl rfl)
theorem dX52_leaving_177 : decode cX52_leaving 177 = .ok (.getfield 66, 3) := dk_180 0 66 (dk_at dksX52_leaving_7 16 rfl rfl)
theorem dX52_leaving_180 : decode cX52_leaving 180 = .ok (.iload_n 2, 1) := dk_28 (dk_at dksX52_leaving_7 19 rfl rfl)
theorem dX52_leaving_181 : decode cX52_leaving 181 = .ok (.iaload, 1) := dk_46 (dk_at dksX52_leaving_7 20 rfl rfl)
theorem dX52_leaving_182 : decode cX52_leaving 182 = .ok (.if_icmp .ge 7, 3) := dk_162 0 7 (dk_at dksX52_leaving_7 21 rfl rfl)
theorem dX52_leaving_185 : decode cX52_leaving 185 = .ok (.iconst 1, 1) := dk_4 (dk_at dksX52_leaving_8 0 rfl rfl)
theorem dX52_leaving_186 : decode cX52_leaving 186 = .ok (.goto 4, 3) := dk_167 0 4 (dk_at dksX52_leaving_8 1 rfl rfl)
theorem dX52_leaving_189 : decode cX52_leaving 189 = .ok (.iconst 0, 1) := dk_3 (dk_at dksX52_leaving_8 4 rfl rfl)
theorem dX52_leaving_190 : decode cX52_leaving 190 = .ok (.istore 5, 2) := dk_54 5 (dk_at dksX52_leaving_8 5 rfl rfl)
theorem dX52_leaving_192 : decode cX52_leaving 192 = .ok (.iload 5, 2) := dk_21 5 (dk_at dksX52_leaving_8 7 rfl rfl)
theorem dX52_leaving_194 : decode cX52_leaving 194 = .ok (.ifCond .eq 7, 3) := dk_153 0 7 (dk_at dksX52_leaving_8 9 rfl rfl)
theorem dX52_leaving_197 : decode cX52_leaving 197 = .ok (.iload_n 3, 1) := dk_29 (dk_at dksX52_leaving_8 12 rfl rfl)
theorem dX52_leaving_198 : decode cX52_leaving 198 = .ok (.goto 4, 3) := dk_167 0 4 (dk_at dksX52_leaving_8 13 rfl rfl)
theorem dX52_leaving_201 : decode cX52_leaving 201 = .ok (.iload_n 2, 1) := dk_28 (dk_at dksX52_leaving_8 16 rfl rfl)
theorem dX52_leaving_202 : decode cX52_leaving 202 = .ok (.istore_n 2, 1) := dk_61 (dk_at dksX52_leaving_8 17 rfl rfl)
theorem dX52_leaving_203 : decode cX52_leaving 203 = .ok (.iinc 3 1, 3) := dk_132 3 1 (dk_at dksX52_leaving_8 18 rfl rfl)
theorem dX52_leaving_206 : decode cX52_leaving 206 = .ok (.goto (-202), 3) := dk_167 255 54 (dk_at dksX52_leaving_8 21 rfl rfl)
theorem dX52_leaving_209 : decode cX52_leaving 209 = .ok (.iload_n 2, 1) := dk_28 (dk_at dksX52_leaving_9 0 rfl rfl)
theorem dX52_leaving_210 : decode cX52_leaving 210 = .ok (.ireturn, 1) := dk_172 (dk_at dksX52_leaving_9 1 rfl rfl)
abbrev cX52_turn : ByteArray := prog_63_method_23_code
def yX52_turn : MethodName := ⟨RX52, "turn", "(II)V"⟩
def dkwX52_turn_9 : List UInt8 := [180, 0, 66, 27, 28, 79, 177]
abbrev dktX52_turn_9 : List UInt8 := dkwX52_turn_9 ++ []
def dkwX52_turn_8 : List UInt8 := [180, 0, 59, 21, 9, 9, 80, 42, 180, 0, 63, 21, 9, 10, 80, 132, 8, 1, 167, 255, 160, 42]
abbrev dktX52_turn_8 : List UInt8 := dkwX52_turn_8 ++ dktX52_turn_9
def dkwX52_turn_7 : List UInt8 := [104, 21, 10, 96, 21, 9, 16, 72, 27, 104, 21, 10, 96, 182, 0, 164, 132, 10, 1, 167, 255, 219, 42]
abbrev dktX52_turn_7 : List UInt8 := dkwX52_turn_7 ++ dktX52_turn_8
def dkwX52_turn_6 : List UInt8 := [153, 0, 62, 3, 54, 10, 21, 10, 16, 72, 162, 0, 36, 21, 10, 28, 159, 0, 24, 42, 16, 72, 21, 8]
abbrev dktX52_turn_6 : List UInt8 := dkwX52_turn_6 ++ dktX52_turn_7
def dkwX52_turn_5 : List UInt8 := [21, 8, 104, 28, 96, 54, 9, 21, 8, 27, 159, 0, 74, 42, 180, 0, 59, 21, 9, 47, 9, 148]
abbrev dktX52_turn_5 : List UInt8 := dkwX52_turn_5 ++ dktX52_turn_6
def dkwX52_turn_4 : List UInt8 := [22, 4, 105, 182, 0, 160, 132, 8, 1, 167, 255, 177, 3, 54, 8, 21, 8, 16, 7, 163, 0, 95, 16, 72]
abbrev dktX52_turn_4 : List UInt8 := dkwX52_turn_4 ++ dktX52_turn_5
def dkwX52_turn_3 : List UInt8 := [47, 22, 6, 105, 42, 180, 0, 63, 21, 9, 47, 22, 4, 9, 148, 156, 0, 9, 22, 4, 117, 167, 0, 5]
abbrev dktX52_turn_3 : List UInt8 := dkwX52_turn_3 ++ dktX52_turn_4
def dkwX52_turn_2 : List UInt8 := [148, 156, 0, 17, 42, 180, 0, 59, 21, 9, 47, 117, 22, 6, 105, 167, 0, 13, 42, 180, 0, 59, 21, 9]
abbrev dktX52_turn_2 : List UInt8 := dkwX52_turn_2 ++ dktX52_turn_3
def dkwX52_turn_1 : List UInt8 := [54, 8, 21, 8, 16, 72, 162, 0, 78, 16, 72, 27, 104, 21, 8, 96, 54, 9, 42, 21, 9, 22, 4, 9]
abbrev dktX52_turn_1 : List UInt8 := dkwX52_turn_1 ++ dktX52_turn_2
def dkwX52_turn_0 : List UInt8 := [16, 72, 27, 104, 28, 96, 62, 42, 180, 0, 59, 29, 47, 55, 4, 42, 180, 0, 63, 29, 47, 55, 6, 3]
abbrev dktX52_turn_0 : List UInt8 := dkwX52_turn_0 ++ dktX52_turn_1
theorem dksX52_turn_0 : cX52_turn.data.toList.drop 0 = dktX52_turn_0 := by decide +kernel
theorem dksX52_turn_1 : cX52_turn.data.toList.drop 24 = dktX52_turn_1 := dk_seg dksX52_turn_0 24 rfl rfl
theorem dksX52_turn_2 : cX52_turn.data.toList.drop 48 = dktX52_turn_2 := dk_seg dksX52_turn_1 24 rfl rfl
theorem dksX52_turn_3 : cX52_turn.data.toList.drop 72 = dktX52_turn_3 := dk_seg dksX52_turn_2 24 rfl rfl
theorem dksX52_turn_4 : cX52_turn.data.toList.drop 96 = dktX52_turn_4 := dk_seg dksX52_turn_3 24 rfl rfl
theorem dksX52_turn_5 : cX52_turn.data.toList.drop 120 = dktX52_turn_5 := dk_seg dksX52_turn_4 24 rfl rfl
theorem dksX52_turn_6 : cX52_turn.data.toList.drop 142 = dktX52_turn_6 := dk_seg dksX52_turn_5 22 rfl rfl
theorem dksX52_turn_7 : cX52_turn.data.toList.drop 166 = dktX52_turn_7 := dk_seg dksX52_turn_6 24 rfl rfl
theorem dksX52_turn_8 : cX52_turn.data.toList.drop 189 = dktX52_turn_8 := dk_seg dksX52_turn_7 23 rfl rfl
theorem dksX52_turn_9 : cX52_turn.data.toList.drop 211 = dktX52_turn_9 := dk_seg dksX52_turn_8 22 rfl rfl
theorem dX52_turn_0 : decode cX52_turn 0 = .ok (.bipush 72, 2) := dk_16 72 (dk_at dksX52_turn_0 0 rfl rfl)
theorem dX52_turn_2 : decode cX52_turn 2 = .ok (.iload_n 1, 1) := dk_27 (dk_at dksX52_turn_0 2 rfl rfl)
theorem dX52_turn_3 : decode cX52_turn 3 = .ok (.imul, 1) := dk_104 (dk_at dksX52_turn_0 3 rfl rfl)
theorem dX52_turn_4 : decode cX52_turn 4 = .ok (.iload_n 2, 1) := dk_28 (dk_at dksX52_turn_0 4 rfl rfl)
theorem dX52_turn_5 : decode cX52_turn 5 = .ok (.iadd, 1) := dk_96 (dk_at dksX52_turn_0 5 rfl rfl)
theorem dX52_turn_6 : decode cX52_turn 6 = .ok (.istore_n 3, 1) := dk_62 (dk_at dksX52_turn_0 6 rfl rfl)
theorem dX52_turn_7 : decode cX52_turn 7 = .ok (.aload_n 0, 1) := dk_42 (dk_at dksX52_turn_0 7 rfl rfl)
theorem dX52_turn_8 : decode cX52_turn 8 = .ok (.getfield 59, 3) := dk_180 0 59 (dk_at dksX52_turn_0 8 rfl rfl)
theorem dX52_turn_11 : decode cX52_turn 11 = .ok (.iload_n 3, 1) := dk_29 (dk_at dksX52_turn_0 11 rfl rfl)
theorem dX52_turn_12 : decode cX52_turn 12 = .ok (.laload, 1) := dk_47 (dk_at dksX52_turn_0 12 rfl rfl)
theorem dX52_turn_13 : decode cX52_turn 13 = .ok (.lstore 4, 2) := dk_55 4 (dk_at dksX52_turn_0 13 rfl rfl)
theorem dX52_turn_15 : decode cX52_turn 15 = .ok (.aload_n 0, 1) := dk_42 (dk_at dksX52_turn_0 15 rfl rfl)
theorem dX52_turn_16 : decode cX52_turn 16 = .ok (.getfield 63, 3) := dk_180 0 63 (dk_at dksX52_turn_0 16 rfl rfl)
theorem dX52_turn_19 : decode cX52_turn 19 = .ok (.iload_n 3, 1) := dk_29 (dk_at dksX52_turn_0 19 rfl rfl)
theorem dX52_turn_20 : decode cX52_turn 20 = .ok (.laload, 1) := dk_47 (dk_at dksX52_turn_0 20 rfl rfl)
theorem dX52_turn_21 : decode cX52_turn 21 = .ok (.lstore 6, 2) := dk_55 6 (dk_at dksX52_turn_0 21 rfl rfl)
theorem dX52_turn_23 : decode cX52_turn 23 = .ok (.iconst 0, 1) := dk_3 (dk_at dksX52_turn_0 23 rfl rfl)
theorem dX52_turn_24 : decode cX52_turn 24 = .ok (.istore 8, 2) := dk_54 8 (dk_at dksX52_turn_1 0 rfl rfl)
theorem dX52_turn_26 : decode cX52_turn 26 = .ok (.iload 8, 2) := dk_21 8 (dk_at dksX52_turn_1 2 rfl rfl)
theorem dX52_turn_28 : decode cX52_turn 28 = .ok (.bipush 72, 2) := dk_16 72 (dk_at dksX52_turn_1 4 rfl rfl)
theorem dX52_turn_30 : decode cX52_turn 30 = .ok (.if_icmp .ge 78, 3) := dk_162 0 78 (dk_at dksX52_turn_1 6 rfl rfl)
theorem dX52_turn_33 : decode cX52_turn 33 = .ok (.bipush 72, 2) := dk_16 72 (dk_at dksX52_turn_1 9 rfl rfl)
theorem dX52_turn_35 : decode cX52_turn 35 = .ok (.iload_n 1, 1) := dk_27 (dk_at dksX52_turn_1 11 rfl rfl)
theorem dX52_turn_36 : decode cX52_turn 36 = .ok (.imul, 1) := dk_104 (dk_at dksX52_turn_1 12 rfl rfl)
theorem dX52_turn_37 : decode cX52_turn 37 = .ok (.iload 8, 2) := dk_21 8 (dk_at dksX52_turn_1 13 rfl rfl)
theorem dX52_turn_39 : decode cX52_turn 39 = .ok (.iadd, 1) := dk_96 (dk_at dksX52_turn_1 15 rfl rfl)
theorem dX52_turn_40 : decode cX52_turn 40 = .ok (.istore 9, 2) := dk_54 9 (dk_at dksX52_turn_1 16 rfl rfl)
theorem dX52_turn_42 : decode cX52_turn 42 = .ok (.aload_n 0, 1) := dk_42 (dk_at dksX52_turn_1 18 rfl rfl)
theorem dX52_turn_43 : decode cX52_turn 43 = .ok (.iload 9, 2) := dk_21 9 (dk_at dksX52_turn_1 19 rfl rfl)
theorem dX52_turn_45 : decode cX52_turn 45 = .ok (.lload 4, 2) := dk_22 4 (dk_at dksX52_turn_1 21 rfl rfl)
theorem dX52_turn_47 : decode cX52_turn 47 = .ok (.lconst 0, 1) := dk_9 (dk_at dksX52_turn_1 23 rfl rfl)
theorem dX52_turn_48 : decode cX52_turn 48 = .ok (.lcmp, 1) := dk_148 (dk_at dksX52_turn_2 0 rfl rfl)
theorem dX52_turn_49 : decode cX52_turn 49 = .ok (.ifCond .ge 17, 3) := dk_156 0 17 (dk_at dksX52_turn_2 1 rfl rfl)
theorem dX52_turn_52 : decode cX52_turn 52 = .ok (.aload_n 0, 1) := dk_42 (dk_at dksX52_turn_2 4 rfl rfl)
theorem dX52_turn_53 : decode cX52_turn 53 = .ok (.getfield 59, 3) := dk_180 0 59 (dk_at dksX52_turn_2 5 rfl rfl)
theorem dX52_turn_56 : decode cX52_turn 56 = .ok (.iload 9, 2) := dk_21 9 (dk_at dksX52_turn_2 8 rfl rfl)
theorem dX52_turn_58 : decode cX52_turn 58 = .ok (.laload, 1) := dk_47 (dk_at dksX52_turn_2 10 rfl rfl)
theorem dX52_turn_59 : decode cX52_turn 59 = .ok (.lneg, 1) := dk_117 (dk_at dksX52_turn_2 11 rfl rfl)
theorem dX52_turn_60 : decode cX52_turn 60 = .ok (.lload 6, 2) := dk_22 6 (dk_at dksX52_turn_2 12 rfl rfl)
theorem dX52_turn_62 : decode cX52_turn 62 = .ok (.lmul, 1) := dk_105 (dk_at dksX52_turn_2 14 rfl rfl)
theorem dX52_turn_63 : decode cX52_turn 63 = .ok (.goto 13, 3) := dk_167 0 13 (dk_at dksX52_turn_2 15 rfl rfl)
theorem dX52_turn_66 : decode cX52_turn 66 = .ok (.aload_n 0, 1) := dk_42 (dk_at dksX52_turn_2 18 rfl rfl)
theorem dX52_turn_67 : decode cX52_turn 67 = .ok (.getfield 59, 3) := dk_180 0 59 (dk_at dksX52_turn_2 19 rfl rfl)
theorem dX52_turn_70 : decode cX52_turn 70 = .ok (.iload 9, 2) := dk_21 9 (dk_at dksX52_turn_2 22 rfl rfl)
theorem dX52_turn_72 : decode cX52_turn 72 = .ok (.laload, 1) := dk_47 (dk_at dksX52_turn_3 0 rfl rfl)
theorem dX52_turn_73 : decode cX52_turn 73 = .ok (.lload 6, 2) := dk_22 6 (dk_at dksX52_turn_3 1 rfl rfl)
theorem dX52_turn_75 : decode cX52_turn 75 = .ok (.lmul, 1) := dk_105 (dk_at dksX52_turn_3 3 rfl rfl)
theorem dX52_turn_76 : decode cX52_turn 76 = .ok (.aload_n 0, 1) := dk_42 (dk_at dksX52_turn_3 4 rfl rfl)
theorem dX52_turn_77 : decode cX52_turn 77 = .ok (.getfield 63, 3) := dk_180 0 63 (dk_at dksX52_turn_3 5 rfl rfl)
theorem dX52_turn_80 : decode cX52_turn 80 = .ok (.iload 9, 2) := dk_21 9 (dk_at dksX52_turn_3 8 rfl rfl)
theorem dX52_turn_82 : decode cX52_turn 82 = .ok (.laload, 1) := dk_47 (dk_at dksX52_turn_3 10 rfl rfl)
theorem dX52_turn_83 : decode cX52_turn 83 = .ok (.lload 4, 2) := dk_22 4 (dk_at dksX52_turn_3 11 rfl rfl)
theorem dX52_turn_85 : decode cX52_turn 85 = .ok (.lconst 0, 1) := dk_9 (dk_at dksX52_turn_3 13 rfl rfl)
theorem dX52_turn_86 : decode cX52_turn 86 = .ok (.lcmp, 1) := dk_148 (dk_at dksX52_turn_3 14 rfl rfl)
theorem dX52_turn_87 : decode cX52_turn 87 = .ok (.ifCond .ge 9, 3) := dk_156 0 9 (dk_at dksX52_turn_3 15 rfl rfl)
theorem dX52_turn_90 : decode cX52_turn 90 = .ok (.lload 4, 2) := dk_22 4 (dk_at dksX52_turn_3 18 rfl rfl)
theorem dX52_turn_92 : decode cX52_turn 92 = .ok (.lneg, 1) := dk_117 (dk_at dksX52_turn_3 20 rfl rfl)
theorem dX52_turn_93 : decode cX52_turn 93 = .ok (.goto 5, 3) := dk_167 0 5 (dk_at dksX52_turn_3 21 rfl rfl)
theorem dX52_turn_96 : decode cX52_turn 96 = .ok (.lload 4, 2) := dk_22 4 (dk_at dksX52_turn_4 0 rfl rfl)
theorem dX52_turn_98 : decode cX52_turn 98 = .ok (.lmul, 1) := dk_105 (dk_at dksX52_turn_4 2 rfl rfl)
theorem dX52_turn_99 : decode cX52_turn 99 = .ok (.invokevirtual 160, 3) := dk_182 0 160 (dk_at dksX52_turn_4 3 rfl rfl)
theorem dX52_turn_102 : decode cX52_turn 102 = .ok (.iinc 8 1, 3) := dk_132 8 1 (dk_at dksX52_turn_4 6 rfl rfl)
theorem dX52_turn_105 : decode cX52_turn 105 = .ok (.goto (-79), 3) := dk_167 255 177 (dk_at dksX52_turn_4 9 rfl rfl)
theorem dX52_turn_108 : decode cX52_turn 108 = .ok (.iconst 0, 1) := dk_3 (dk_at dksX52_turn_4 12 rfl rfl)
theorem dX52_turn_109 : decode cX52_turn 109 = .ok (.istore 8, 2) := dk_54 8 (dk_at dksX52_turn_4 13 rfl rfl)
theorem dX52_turn_111 : decode cX52_turn 111 = .ok (.iload 8, 2) := dk_21 8 (dk_at dksX52_turn_4 15 rfl rfl)
theorem dX52_turn_113 : decode cX52_turn 113 = .ok (.bipush 7, 2) := dk_16 7 (dk_at dksX52_turn_4 17 rfl rfl)
theorem dX52_turn_115 : decode cX52_turn 115 = .ok (.if_icmp .gt 95, 3) := dk_163 0 95 (dk_at dksX52_turn_4 19 rfl rfl)
theorem dX52_turn_118 : decode cX52_turn 118 = .ok (.bipush 72, 2) := dk_16 72 (dk_at dksX52_turn_4 22 rfl rfl)
theorem dX52_turn_120 : decode cX52_turn 120 = .ok (.iload 8, 2) := dk_21 8 (dk_at dksX52_turn_5 0 rfl rfl)
theorem dX52_turn_122 : decode cX52_turn 122 = .ok (.imul, 1) := dk_104 (dk_at dksX52_turn_5 2 rfl rfl)
theorem dX52_turn_123 : decode cX52_turn 123 = .ok (.iload_n 2, 1) := dk_28 (dk_at dksX52_turn_5 3 rfl rfl)
theorem dX52_turn_124 : decode cX52_turn 124 = .ok (.iadd, 1) := dk_96 (dk_at dksX52_turn_5 4 rfl rfl)
theorem dX52_turn_125 : decode cX52_turn 125 = .ok (.istore 9, 2) := dk_54 9 (dk_at dksX52_turn_5 5 rfl rfl)
theorem dX52_turn_127 : decode cX52_turn 127 = .ok (.iload 8, 2) := dk_21 8 (dk_at dksX52_turn_5 7 rfl rfl)
theorem dX52_turn_129 : decode cX52_turn 129 = .ok (.iload_n 1, 1) := dk_27 (dk_at dksX52_turn_5 9 rfl rfl)
theorem dX52_turn_130 : decode cX52_turn 130 = .ok (.if_icmp .eq 74, 3) := dk_159 0 74 (dk_at dksX52_turn_5 10 rfl rfl)
theorem dX52_turn_133 : decode cX52_turn 133 = .ok (.aload_n 0, 1) := dk_42 (dk_at dksX52_turn_5 13 rfl rfl)
theorem dX52_turn_134 : decode cX52_turn 134 = .ok (.getfield 59, 3) := dk_180 0 59 (dk_at dksX52_turn_5 14 rfl rfl)
theorem dX52_turn_137 : decode cX52_turn 137 = .ok (.iload 9, 2) := dk_21 9 (dk_at dksX52_turn_5 17 rfl rfl)
theorem dX52_turn_139 : decode cX52_turn 139 = .ok (.laload, 1) := dk_47 (dk_at dksX52_turn_5 19 rfl rfl)
theorem dX52_turn_140 : decode cX52_turn 140 = .ok (.lconst 0, 1) := dk_9 (dk_at dksX52_turn_5 20 rfl rfl)
theorem dX52_turn_141 : decode cX52_turn 141 = .ok (.lcmp, 1) := dk_148 (dk_at dksX52_turn_5 21 rfl rfl)
theorem dX52_turn_142 : decode cX52_turn 142 = .ok (.ifCond .eq 62, 3) := dk_153 0 62 (dk_at dksX52_turn_6 0 rfl rfl)
theorem dX52_turn_145 : decode cX52_turn 145 = .ok (.iconst 0, 1) := dk_3 (dk_at dksX52_turn_6 3 rfl rfl)
theorem dX52_turn_146 : decode cX52_turn 146 = .ok (.istore 10, 2) := dk_54 10 (dk_at dksX52_turn_6 4 rfl rfl)
theorem dX52_turn_148 : decode cX52_turn 148 = .ok (.iload 10, 2) := dk_21 10 (dk_at dksX52_turn_6 6 rfl rfl)
theorem dX52_turn_150 : decode cX52_turn 150 = .ok (.bipush 72, 2) := dk_16 72 (dk_at dksX52_turn_6 8 rfl rfl)
theorem dX52_turn_152 : decode cX52_turn 152 = .ok (.if_icmp .ge 36, 3) := dk_162 0 36 (dk_at dksX52_turn_6 10 rfl rfl)
theorem dX52_turn_155 : decode cX52_turn 155 = .ok (.iload 10, 2) := dk_21 10 (dk_at dksX52_turn_6 13 rfl rfl)
theorem dX52_turn_157 : decode cX52_turn 157 = .ok (.iload_n 2, 1) := dk_28 (dk_at dksX52_turn_6 15 rfl rfl)
theorem dX52_turn_158 : decode cX52_turn 158 = .ok (.if_icmp .eq 24, 3) := dk_159 0 24 (dk_at dksX52_turn_6 16 rfl rfl)
theorem dX52_turn_161 : decode cX52_turn 161 = .ok (.aload_n 0, 1) := dk_42 (dk_at dksX52_turn_6 19 rfl rfl)
theorem dX52_turn_162 : decode cX52_turn 162 = .ok (.bipush 72, 2) := dk_16 72 (dk_at dksX52_turn_6 20 rfl rfl)
theorem dX52_turn_164 : decode cX52_turn 164 = .ok (.iload 8, 2) := dk_21 8 (dk_at dksX52_turn_6 22 rfl rfl)
theorem dX52_turn_166 : decode cX52_turn 166 = .ok (.imul, 1) := dk_104 (dk_at dksX52_turn_7 0 rfl rfl)
theorem dX52_turn_167 : decode cX52_turn 167 = .ok (.iload 10, 2) := dk_21 10 (dk_at dksX52_turn_7 1 rfl rfl)
theorem dX52_turn_169 : decode cX52_turn 169 = .ok (.iadd, 1) := dk_96 (dk_at dksX52_turn_7 3 rfl rfl)
theorem dX52_turn_170 : decode cX52_turn 170 = .ok (.iload 9, 2) := dk_21 9 (dk_at dksX52_turn_7 4 rfl rfl)
theorem dX52_turn_172 : decode cX52_turn 172 = .ok (.bipush 72, 2) := dk_16 72 (dk_at dksX52_turn_7 6 rfl rfl)
theorem dX52_turn_174 : decode cX52_turn 174 = .ok (.iload_n 1, 1) := dk_27 (dk_at dksX52_turn_7 8 rfl rfl)
theorem dX52_turn_175 : decode cX52_turn 175 = .ok (.imul, 1) := dk_104 (dk_at dksX52_turn_7 9 rfl rfl)
theorem dX52_turn_176 : decode cX52_turn 176 = .ok (.iload 10, 2) := dk_21 10 (dk_at dksX52_turn_7 10 rfl rfl)
theorem dX52_turn_178 : decode cX52_turn 178 = .ok (.iadd, 1) := dk_96 (dk_at dksX52_turn_7 12 rfl rfl)
theorem dX52_turn_179 : decode cX52_turn 179 = .ok (.invokevirtual 164, 3) := dk_182 0 164 (dk_at dksX52_turn_7 13 rfl rfl)
theorem dX52_turn_182 : decode cX52_turn 182 = .ok (.iinc 10 1, 3) := dk_132 10 1 (dk_at dksX52_turn_7 16 rfl rfl)
theorem dX52_turn_185 : decode cX52_turn 185 = .ok (.goto (-37), 3) := dk_167 255 219 (dk_at dksX52_turn_7 19 rfl rfl)
theorem dX52_turn_188 : decode cX52_turn 188 = .ok (.aload_n 0, 1) := dk_42 (dk_at dksX52_turn_7 22 rfl rfl)
theorem dX52_turn_189 : decode cX52_turn 189 = .ok (.getfield 59, 3) := dk_180 0 59 (dk_at dksX52_turn_8 0 rfl rfl)
theorem dX52_turn_192 : decode cX52_turn 192 = .ok (.iload 9, 2) := dk_21 9 (dk_at dksX52_turn_8 3 rfl rfl)
theorem dX52_turn_194 : decode cX52_turn 194 = .ok (.lconst 0, 1) := dk_9 (dk_at dksX52_turn_8 5 rfl rfl)
theorem dX52_turn_195 : decode cX52_turn 195 = .ok (.lastore, 1) := dk_80 (dk_at dksX52_turn_8 6 rfl rfl)
theorem dX52_turn_196 : decode cX52_turn 196 = .ok (.aload_n 0, 1) := dk_42 (dk_at dksX52_turn_8 7 rfl rfl)
theorem dX52_turn_197 : decode cX52_turn 197 = .ok (.getfield 63, 3) := dk_180 0 63 (dk_at dksX52_turn_8 8 rfl rfl)
theorem dX52_turn_200 : decode cX52_turn 200 = .ok (.iload 9, 2) := dk_21 9 (dk_at dksX52_turn_8 11 rfl rfl)
theorem dX52_turn_202 : decode cX52_turn 202 = .ok (.lconst 1, 1) := dk_10 (dk_at dksX52_turn_8 13 rfl rfl)
theorem dX52_turn_203 : decode cX52_turn 203 = .ok (.lastore, 1) := dk_80 (dk_at dksX52_turn_8 14 rfl rfl)
theorem dX52_turn_204 : decode cX52_turn 204 = .ok (.iinc 8 1, 3) := dk_132 8 1 (dk_at dksX52_turn_8 15 rfl rfl)
theorem dX52_turn_207 : decode cX52_turn 207 = .ok (.goto (-96), 3) := dk_167 255 160 (dk_at dksX52_turn_8 18 rfl rfl)
theorem dX52_turn_210 : decode cX52_turn 210 = .ok (.aload_n 0, 1) := dk_42 (dk_at dksX52_turn_8 21 rfl rfl)
theorem dX52_turn_211 : decode cX52_turn 211 = .ok (.getfield 66, 3) := dk_180 0 66 (dk_at dksX52_turn_9 0 rfl rfl)
theorem dX52_turn_214 : decode cX52_turn 214 = .ok (.iload_n 1, 1) := dk_27 (dk_at dksX52_turn_9 3 rfl rfl)
theorem dX52_turn_215 : decode cX52_turn 215 = .ok (.iload_n 2, 1) := dk_28 (dk_at dksX52_turn_9 4 rfl rfl)
theorem dX52_turn_216 : decode cX52_turn 216 = .ok (.iastore, 1) := dk_79 (dk_at dksX52_turn_9 5 rfl rfl)
theorem dX52_turn_217 : decode cX52_turn 217 = .ok (.return_, 1) := dk_177 (dk_at dksX52_turn_9 6 rfl rfl)
abbrev cX52_lessen : ByteArray := prog_63_method_22_code
def yX52_lessen : MethodName := ⟨RX52, "lessen", "(III)V"⟩
def dkwX52_lessen_5 : List UInt8 := [101, 42, 180, 0, 63, 27, 47, 22, 10, 105, 182, 0, 160, 177]
abbrev dktX52_lessen_5 : List UInt8 := dkwX52_lessen_5 ++ []
def dkwX52_lessen_4 : List UInt8 := [109, 105, 55, 10, 42, 27, 42, 180, 0, 59, 27, 47, 22, 10, 105, 22, 8, 42, 180, 0, 63, 27, 47, 105]
abbrev dktX52_lessen_4 : List UInt8 := dkwX52_lessen_4 ++ dktX52_lessen_5
def dkwX52_lessen_3 : List UInt8 := [47, 22, 6, 109, 105, 55, 8, 42, 180, 0, 63, 28, 47, 22, 6, 109, 42, 180, 0, 63, 29, 47, 22, 4]
abbrev dktX52_lessen_3 : List UInt8 := dkwX52_lessen_3 ++ dktX52_lessen_4
def dkwX52_lessen_2 : List UInt8 := [180, 0, 63, 28, 47, 184, 0, 156, 55, 6, 42, 180, 0, 59, 28, 47, 22, 4, 109, 42, 180, 0, 59, 29]
abbrev dktX52_lessen_2 : List UInt8 := dkwX52_lessen_2 ++ dktX52_lessen_3
def dkwX52_lessen_1 : List UInt8 := [180, 0, 59, 28, 47, 42, 180, 0, 63, 29, 47, 184, 0, 156, 55, 4, 42, 180, 0, 59, 29, 47, 42]
abbrev dktX52_lessen_1 : List UInt8 := dkwX52_lessen_1 ++ dktX52_lessen_2
def dkwX52_lessen_0 : List UInt8 := [42, 180, 0, 59, 28, 47, 9, 148, 153, 0, 14, 42, 180, 0, 59, 29, 47, 9, 148, 154, 0, 4, 177, 42]
abbrev dktX52_lessen_0 : List UInt8 := dkwX52_lessen_0 ++ dktX52_lessen_1
theorem dksX52_lessen_0 : cX52_lessen.data.toList.drop 0 = dktX52_lessen_0 := by decide +kernel
theorem dksX52_lessen_1 : cX52_lessen.data.toList.drop 24 = dktX52_lessen_1 := dk_seg dksX52_lessen_0 24 rfl rfl
theorem dksX52_lessen_2 : cX52_lessen.data.toList.drop 47 = dktX52_lessen_2 := dk_seg dksX52_lessen_1 23 rfl rfl
theorem dksX52_lessen_3 : cX52_lessen.data.toList.drop 71 = dktX52_lessen_3 := dk_seg dksX52_lessen_2 24 rfl rfl
theorem dksX52_lessen_4 : cX52_lessen.data.toList.drop 95 = dktX52_lessen_4 := dk_seg dksX52_lessen_3 24 rfl rfl
theorem dksX52_lessen_5 : cX52_lessen.data.toList.drop 119 = dktX52_lessen_5 := dk_seg dksX52_lessen_4 24 rfl rfl
theorem dX52_lessen_0 : decode cX52_lessen 0 = .ok (.aload_n 0, 1) := dk_42 (dk_at dksX52_lessen_0 0 rfl rfl)
theorem dX52_lessen_1 : decode cX52_lessen 1 = .ok (.getfield 59, 3) := dk_180 0 59 (dk_at dksX52_lessen_0 1 rfl rfl)
theorem dX52_lessen_4 : decode cX52_lessen 4 = .ok (.iload_n 2, 1) := dk_28 (dk_at dksX52_lessen_0 4 rfl rfl)
theorem dX52_lessen_5 : decode cX52_lessen 5 = .ok (.laload, 1) := dk_47 (dk_at dksX52_lessen_0 5 rfl rfl)
theorem dX52_lessen_6 : decode cX52_lessen 6 = .ok (.lconst 0, 1) := dk_9 (dk_at dksX52_lessen_0 6 rfl rfl)
theorem dX52_lessen_7 : decode cX52_lessen 7 = .ok (.lcmp, 1) := dk_148 (dk_at dksX52_lessen_0 7 rfl rfl)
theorem dX52_lessen_8 : decode cX52_lessen 8 = .ok (.ifCond .eq 14, 3) := dk_153 0 14 (dk_at dksX52_lessen_0 8 rfl rfl)
theorem dX52_lessen_11 : decode cX52_lessen 11 = .ok (.aload_n 0, 1) := dk_42 (dk_at dksX52_lessen_0 11 rfl rfl)
theorem dX52_lessen_12 : decode cX52_lessen 12 = .ok (.getfield 59, 3) := dk_180 0 59 (dk_at dksX52_lessen_0 12 rfl rfl)
theorem dX52_lessen_15 : decode cX52_lessen 15 = .ok (.iload_n 3, 1) := dk_29 (dk_at dksX52_lessen_0 15 rfl rfl)
theorem dX52_lessen_16 : decode cX52_lessen 16 = .ok (.laload, 1) := dk_47 (dk_at dksX52_lessen_0 16 rfl rfl)
theorem dX52_lessen_17 : decode cX52_lessen 17 = .ok (.lconst 0, 1) := dk_9 (dk_at dksX52_lessen_0 17 rfl rfl)
theorem dX52_lessen_18 : decode cX52_lessen 18 = .ok (.lcmp, 1) := dk_148 (dk_at dksX52_lessen_0 18 rfl rfl)
theorem dX52_lessen_19 : decode cX52_lessen 19 = .ok (.ifCond .ne 4, 3) := dk_154 0 4 (dk_at dksX52_lessen_0 19 rfl rfl)
theorem dX52_lessen_22 : decode cX52_lessen 22 = .ok (.return_, 1) := dk_177 (dk_at dksX52_lessen_0 22 rfl rfl)
theorem dX52_lessen_23 : decode cX52_lessen 23 = .ok (.aload_n 0, 1) := dk_42 (dk_at dksX52_lessen_0 23 rfl rfl)
theorem dX52_lessen_24 : decode cX52_lessen 24 = .ok (.getfield 59, 3) := dk_180 0 59 (dk_at dksX52_lessen_1 0 rfl rfl)
theorem dX52_lessen_27 : decode cX52_lessen 27 = .ok (.iload_n 2, 1) := dk_28 (dk_at dksX52_lessen_1 3 rfl rfl)
theorem dX52_lessen_28 : decode cX52_lessen 28 = .ok (.laload, 1) := dk_47 (dk_at dksX52_lessen_1 4 rfl rfl)
theorem dX52_lessen_29 : decode cX52_lessen 29 = .ok (.aload_n 0, 1) := dk_42 (dk_at dksX52_lessen_1 5 rfl rfl)
theorem dX52_lessen_30 : decode cX52_lessen 30 = .ok (.getfield 63, 3) := dk_180 0 63 (dk_at dksX52_lessen_1 6 rfl rfl)
theorem dX52_lessen_33 : decode cX52_lessen 33 = .ok (.iload_n 3, 1) := dk_29 (dk_at dksX52_lessen_1 9 rfl rfl)
theorem dX52_lessen_34 : decode cX52_lessen 34 = .ok (.laload, 1) := dk_47 (dk_at dksX52_lessen_1 10 rfl rfl)
theorem dX52_lessen_35 : decode cX52_lessen 35 = .ok (.invokestatic 156, 3) := dk_184 0 156 (dk_at dksX52_lessen_1 11 rfl rfl)
theorem dX52_lessen_38 : decode cX52_lessen 38 = .ok (.lstore 4, 2) := dk_55 4 (dk_at dksX52_lessen_1 14 rfl rfl)
theorem dX52_lessen_40 : decode cX52_lessen 40 = .ok (.aload_n 0, 1) := dk_42 (dk_at dksX52_lessen_1 16 rfl rfl)
theorem dX52_lessen_41 : decode cX52_lessen 41 = .ok (.getfield 59, 3) := dk_180 0 59 (dk_at dksX52_lessen_1 17 rfl rfl)
theorem dX52_lessen_44 : decode cX52_lessen 44 = .ok (.iload_n 3, 1) := dk_29 (dk_at dksX52_lessen_1 20 rfl rfl)
theorem dX52_lessen_45 : decode cX52_lessen 45 = .ok (.laload, 1) := dk_47 (dk_at dksX52_lessen_1 21 rfl rfl)
theorem dX52_lessen_46 : decode cX52_lessen 46 = .ok (.aload_n 0, 1) := dk_42 (dk_at dksX52_lessen_1 22 rfl rfl)
theorem dX52_lessen_47 : decode cX52_lessen 47 = .ok (.getfield 63, 3) := dk_180 0 63 (dk_at dksX52_lessen_2 0 rfl rfl)
theorem dX52_lessen_50 : decode cX52_lessen 50 = .ok (.iload_n 2, 1) := dk_28 (dk_at dksX52_lessen_2 3 rfl rfl)
theorem dX52_lessen_51 : decode cX52_lessen 51 = .ok (.laload, 1) := dk_47 (dk_at dksX52_lessen_2 4 rfl rfl)
theorem dX52_lessen_52 : decode cX52_lessen 52 = .ok (.invokestatic 156, 3) := dk_184 0 156 (dk_at dksX52_lessen_2 5 rfl rfl)
theorem dX52_lessen_55 : decode cX52_lessen 55 = .ok (.lstore 6, 2) := dk_55 6 (dk_at dksX52_lessen_2 8 rfl rfl)
theorem dX52_lessen_57 : decode cX52_lessen 57 = .ok (.aload_n 0, 1) := dk_42 (dk_at dksX52_lessen_2 10 rfl rfl)
theorem dX52_lessen_58 : decode cX52_lessen 58 = .ok (.getfield 59, 3) := dk_180 0 59 (dk_at dksX52_lessen_2 11 rfl rfl)
theorem dX52_lessen_61 : decode cX52_lessen 61 = .ok (.iload_n 2, 1) := dk_28 (dk_at dksX52_lessen_2 14 rfl rfl)
theorem dX52_lessen_62 : decode cX52_lessen 62 = .ok (.laload, 1) := dk_47 (dk_at dksX52_lessen_2 15 rfl rfl)
theorem dX52_lessen_63 : decode cX52_lessen 63 = .ok (.lload 4, 2) := dk_22 4 (dk_at dksX52_lessen_2 16 rfl rfl)
theorem dX52_lessen_65 : decode cX52_lessen 65 = .ok (.ldiv, 1) := dk_109 (dk_at dksX52_lessen_2 18 rfl rfl)
theorem dX52_lessen_66 : decode cX52_lessen 66 = .ok (.aload_n 0, 1) := dk_42 (dk_at dksX52_lessen_2 19 rfl rfl)
theorem dX52_lessen_67 : decode cX52_lessen 67 = .ok (.getfield 59, 3) := dk_180 0 59 (dk_at dksX52_lessen_2 20 rfl rfl)
theorem dX52_lessen_70 : decode cX52_lessen 70 = .ok (.iload_n 3, 1) := dk_29 (dk_at dksX52_lessen_2 23 rfl rfl)
theorem dX52_lessen_71 : decode cX52_lessen 71 = .ok (.laload, 1) := dk_47 (dk_at dksX52_lessen_3 0 rfl rfl)
theorem dX52_lessen_72 : decode cX52_lessen 72 = .ok (.lload 6, 2) := dk_22 6 (dk_at dksX52_lessen_3 1 rfl rfl)
theorem dX52_lessen_74 : decode cX52_lessen 74 = .ok (.ldiv, 1) := dk_109 (dk_at dksX52_lessen_3 3 rfl rfl)
theorem dX52_lessen_75 : decode cX52_lessen 75 = .ok (.lmul, 1) := dk_105 (dk_at dksX52_lessen_3 4 rfl rfl)
theorem dX52_lessen_76 : decode cX52_lessen 76 = .ok (.lstore 8, 2) := dk_55 8 (dk_at dksX52_lessen_3 5 rfl rfl)
theorem dX52_lessen_78 : decode cX52_lessen 78 = .ok (.aload_n 0, 1) := dk_42 (dk_at dksX52_lessen_3 7 rfl rfl)
theorem dX52_lessen_79 : decode cX52_lessen 79 = .ok (.getfield 63, 3) := dk_180 0 63 (dk_at dksX52_lessen_3 8 rfl rfl)
theorem dX52_lessen_82 : decode cX52_lessen 82 = .ok (.iload_n 2, 1) := dk_28 (dk_at dksX52_lessen_3 11 rfl rfl)
theorem dX52_lessen_83 : decode cX52_lessen 83 = .ok (.laload, 1) := dk_47 (dk_at dksX52_lessen_3 12 rfl rfl)
theorem dX52_lessen_84 : decode cX52_lessen 84 = .ok (.lload 6, 2) := dk_22 6 (dk_at dksX52_lessen_3 13 rfl rfl)
theorem dX52_lessen_86 : decode cX52_lessen 86 = .ok (.ldiv, 1) := dk_109 (dk_at dksX52_lessen_3 15 rfl rfl)
theorem dX52_lessen_87 : decode cX52_lessen 87 = .ok (.aload_n 0, 1) := dk_42 (dk_at dksX52_lessen_3 16 rfl rfl)
theorem dX52_lessen_88 : decode cX52_lessen 88 = .ok (.getfield 63, 3) := dk_180 0 63 (dk_at dksX52_lessen_3 17 rfl rfl)
theorem dX52_lessen_91 : decode cX52_lessen 91 = .ok (.iload_n 3, 1) := dk_29 (dk_at dksX52_lessen_3 20 rfl rfl)
theorem dX52_lessen_92 : decode cX52_lessen 92 = .ok (.laload, 1) := dk_47 (dk_at dksX52_lessen_3 21 rfl rfl)
theorem dX52_lessen_93 : decode cX52_lessen 93 = .ok (.lload 4, 2) := dk_22 4 (dk_at dksX52_lessen_3 22 rfl rfl)
theorem dX52_lessen_95 : decode cX52_lessen 95 = .ok (.ldiv, 1) := dk_109 (dk_at dksX52_lessen_4 0 rfl rfl)
theorem dX52_lessen_96 : decode cX52_lessen 96 = .ok (.lmul, 1) := dk_105 (dk_at dksX52_lessen_4 1 rfl rfl)
theorem dX52_lessen_97 : decode cX52_lessen 97 = .ok (.lstore 10, 2) := dk_55 10 (dk_at dksX52_lessen_4 2 rfl rfl)
theorem dX52_lessen_99 : decode cX52_lessen 99 = .ok (.aload_n 0, 1) := dk_42 (dk_at dksX52_lessen_4 4 rfl rfl)
theorem dX52_lessen_100 : decode cX52_lessen 100 = .ok (.iload_n 1, 1) := dk_27 (dk_at dksX52_lessen_4 5 rfl rfl)
theorem dX52_lessen_101 : decode cX52_lessen 101 = .ok (.aload_n 0, 1) := dk_42 (dk_at dksX52_lessen_4 6 rfl rfl)
theorem dX52_lessen_102 : decode cX52_lessen 102 = .ok (.getfield 59, 3) := dk_180 0 59 (dk_at dksX52_lessen_4 7 rfl rfl)
theorem dX52_lessen_105 : decode cX52_lessen 105 = .ok (.iload_n 1, 1) := dk_27 (dk_at dksX52_lessen_4 10 rfl rfl)
theorem dX52_lessen_106 : decode cX52_lessen 106 = .ok (.laload, 1) := dk_47 (dk_at dksX52_lessen_4 11 rfl rfl)
theorem dX52_lessen_107 : decode cX52_lessen 107 = .ok (.lload 10, 2) := dk_22 10 (dk_at dksX52_lessen_4 12 rfl rfl)
theorem dX52_lessen_109 : decode cX52_lessen 109 = .ok (.lmul, 1) := dk_105 (dk_at dksX52_lessen_4 14 rfl rfl)
theorem dX52_lessen_110 : decode cX52_lessen 110 = .ok (.lload 8, 2) := dk_22 8 (dk_at dksX52_lessen_4 15 rfl rfl)
theorem dX52_lessen_112 : decode cX52_lessen 112 = .ok (.aload_n 0, 1) := dk_42 (dk_at dksX52_lessen_4 17 rfl rfl)
theorem dX52_lessen_113 : decode cX52_lessen 113 = .ok (.getfield 63, 3) := dk_180 0 63 (dk_at dksX52_lessen_4 18 rfl rfl)
theorem dX52_lessen_116 : decode cX52_lessen 116 = .ok (.iload_n 1, 1) := dk_27 (dk_at dksX52_lessen_4 21 rfl rfl)
theorem dX52_lessen_117 : decode cX52_lessen 117 = .ok (.laload, 1) := dk_47 (dk_at dksX52_lessen_4 22 rfl rfl)
theorem dX52_lessen_118 : decode cX52_lessen 118 = .ok (.lmul, 1) := dk_105 (dk_at dksX52_lessen_4 23 rfl rfl)
theorem dX52_lessen_119 : decode cX52_lessen 119 = .ok (.lsub, 1) := dk_101 (dk_at dksX52_lessen_5 0 rfl rfl)
theorem dX52_lessen_120 : decode cX52_lessen 120 = .ok (.aload_n 0, 1) := dk_42 (dk_at dksX52_lessen_5 1 rfl rfl)
theorem dX52_lessen_121 : decode cX52_lessen 121 = .ok (.getfield 63, 3) := dk_180 0 63 (dk_at dksX52_lessen_5 2 rfl rfl)
theorem dX52_lessen_124 : decode cX52_lessen 124 = .ok (.iload_n 1, 1) := dk_27 (dk_at dksX52_lessen_5 5 rfl rfl)
theorem dX52_lessen_125 : decode cX52_lessen 125 = .ok (.laload, 1) := dk_47 (dk_at dksX52_lessen_5 6 rfl rfl)
theorem dX52_lessen_126 : decode cX52_lessen 126 = .ok (.lload 10, 2) := dk_22 10 (dk_at dksX52_lessen_5 7 rfl rfl)
theorem dX52_lessen_128 : decode cX52_lessen 128 = .ok (.lmul, 1) := dk_105 (dk_at dksX52_lessen_5 9 rfl rfl)
theorem dX52_lessen_129 : decode cX52_lessen 129 = .ok (.invokevirtual 160, 3) := dk_182 0 160 (dk_at dksX52_lessen_5 10 rfl rfl)
theorem dX52_lessen_132 : decode cX52_lessen 132 = .ok (.return_, 1) := dk_177 (dk_at dksX52_lessen_5 13 rfl rfl)
abbrev cX52_clean : ByteArray := prog_63_method_29_code
def yX52_clean : MethodName := ⟨RX52, "clean", "()V"⟩
def dkwX52_clean_2 : List UInt8 := [148, 153, 0, 9, 42, 27, 28, 182, 0, 175, 132, 2, 1, 167, 255, 205, 132, 1, 1, 167, 255, 191, 177]
abbrev dktX52_clean_2 : List UInt8 := dkwX52_clean_2 ++ []
def dkwX52_clean_1 : List UInt8 := [161, 0, 40, 42, 180, 0, 69, 28, 51, 153, 0, 25, 42, 180, 0, 59, 16, 72, 27, 104, 28, 96, 47, 9]
abbrev dktX52_clean_1 : List UInt8 := dkwX52_clean_1 ++ dktX52_clean_2
def dkwX52_clean_0 : List UInt8 := [3, 60, 27, 16, 7, 162, 0, 65, 3, 61, 28, 16, 64, 162, 0, 51, 42, 180, 0, 66, 27, 46, 16, 64]
abbrev dktX52_clean_0 : List UInt8 := dkwX52_clean_0 ++ dktX52_clean_1
theorem dksX52_clean_0 : cX52_clean.data.toList.drop 0 = dktX52_clean_0 := by decide +kernel
theorem dksX52_clean_1 : cX52_clean.data.toList.drop 24 = dktX52_clean_1 := dk_seg dksX52_clean_0 24 rfl rfl
theorem dksX52_clean_2 : cX52_clean.data.toList.drop 48 = dktX52_clean_2 := dk_seg dksX52_clean_1 24 rfl rfl
theorem dX52_clean_0 : decode cX52_clean 0 = .ok (.iconst 0, 1) := dk_3 (dk_at dksX52_clean_0 0 rfl rfl)
theorem dX52_clean_1 : decode cX52_clean 1 = .ok (.istore_n 1, 1) := dk_60 (dk_at dksX52_clean_0 1 rfl rfl)
theorem dX52_clean_2 : decode cX52_clean 2 = .ok (.iload_n 1, 1) := dk_27 (dk_at dksX52_clean_0 2 rfl rfl)
theorem dX52_clean_3 : decode cX52_clean 3 = .ok (.bipush 7, 2) := dk_16 7 (dk_at dksX52_clean_0 3 rfl rfl)
theorem dX52_clean_5 : decode cX52_clean 5 = .ok (.if_icmp .ge 65, 3) := dk_162 0 65 (dk_at dksX52_clean_0 5 rfl rfl)
theorem dX52_clean_8 : decode cX52_clean 8 = .ok (.iconst 0, 1) := dk_3 (dk_at dksX52_clean_0 8 rfl rfl)
theorem dX52_clean_9 : decode cX52_clean 9 = .ok (.istore_n 2, 1) := dk_61 (dk_at dksX52_clean_0 9 rfl rfl)
theorem dX52_clean_10 : decode cX52_clean 10 = .ok (.iload_n 2, 1) := dk_28 (dk_at dksX52_clean_0 10 rfl rfl)
theorem dX52_clean_11 : decode cX52_clean 11 = .ok (.bipush 64, 2) := dk_16 64 (dk_at dksX52_clean_0 11 rfl rfl)
theorem dX52_clean_13 : decode cX52_clean 13 = .ok (.if_icmp .ge 51, 3) := dk_162 0 51 (dk_at dksX52_clean_0 13 rfl rfl)
theorem dX52_clean_16 : decode cX52_clean 16 = .ok (.aload_n 0, 1) := dk_42 (dk_at dksX52_clean_0 16 rfl rfl)
theorem dX52_clean_17 : decode cX52_clean 17 = .ok (.getfield 66, 3) := dk_180 0 66 (dk_at dksX52_clean_0 17 rfl rfl)
theorem dX52_clean_20 : decode cX52_clean 20 = .ok (.iload_n 1, 1) := dk_27 (dk_at dksX52_clean_0 20 rfl rfl)
theorem dX52_clean_21 : decode cX52_clean 21 = .ok (.iaload, 1) := dk_46 (dk_at dksX52_clean_0 21 rfl rfl)
theorem dX52_clean_22 : decode cX52_clean 22 = .ok (.bipush 64, 2) := dk_16 64 (dk_at dksX52_clean_0 22 rfl rfl)
theorem dX52_clean_24 : decode cX52_clean 24 = .ok (.if_icmp .lt 40, 3) := dk_161 0 40 (dk_at dksX52_clean_1 0 rfl rfl)
theorem dX52_clean_27 : decode cX52_clean 27 = .ok (.aload_n 0, 1) := dk_42 (dk_at dksX52_clean_1 3 rfl rfl)
theorem dX52_clean_28 : decode cX52_clean 28 = .ok (.getfield 69, 3) := dk_180 0 69 (dk_at dksX52_clean_1 4 rfl rfl)
theorem dX52_clean_31 : decode cX52_clean 31 = .ok (.iload_n 2, 1) := dk_28 (dk_at dksX52_clean_1 7 rfl rfl)
theorem dX52_clean_32 : decode cX52_clean 32 = .ok (.baload, 1) := dk_51 (dk_at dksX52_clean_1 8 rfl rfl)
theorem dX52_clean_33 : decode cX52_clean 33 = .ok (.ifCond .eq 25, 3) := dk_153 0 25 (dk_at dksX52_clean_1 9 rfl rfl)
theorem dX52_clean_36 : decode cX52_clean 36 = .ok (.aload_n 0, 1) := dk_42 (dk_at dksX52_clean_1 12 rfl rfl)
theorem dX52_clean_37 : decode cX52_clean 37 = .ok (.getfield 59, 3) := dk_180 0 59 (dk_at dksX52_clean_1 13 rfl rfl)
theorem dX52_clean_40 : decode cX52_clean 40 = .ok (.bipush 72, 2) := dk_16 72 (dk_at dksX52_clean_1 16 rfl rfl)
theorem dX52_clean_42 : decode cX52_clean 42 = .ok (.iload_n 1, 1) := dk_27 (dk_at dksX52_clean_1 18 rfl rfl)
theorem dX52_clean_43 : decode cX52_clean 43 = .ok (.imul, 1) := dk_104 (dk_at dksX52_clean_1 19 rfl rfl)
theorem dX52_clean_44 : decode cX52_clean 44 = .ok (.iload_n 2, 1) := dk_28 (dk_at dksX52_clean_1 20 rfl rfl)
theorem dX52_clean_45 : decode cX52_clean 45 = .ok (.iadd, 1) := dk_96 (dk_at dksX52_clean_1 21 rfl rfl)
theorem dX52_clean_46 : decode cX52_clean 46 = .ok (.laload, 1) := dk_47 (dk_at dksX52_clean_1 22 rfl rfl)
theorem dX52_clean_47 : decode cX52_clean 47 = .ok (.lconst 0, 1) := dk_9 (dk_at dksX52_clean_1 23 rfl rfl)
theorem dX52_clean_48 : decode cX52_clean 48 = .ok (.lcmp, 1) := dk_148 (dk_at dksX52_clean_2 0 rfl rfl)
theorem dX52_clean_49 : decode cX52_clean 49 = .ok (.ifCond .eq 9, 3) := dk_153 0 9 (dk_at dksX52_clean_2 1 rfl rfl)
theorem dX52_clean_52 : decode cX52_clean 52 = .ok (.aload_n 0, 1) := dk_42 (dk_at dksX52_clean_2 4 rfl rfl)
theorem dX52_clean_53 : decode cX52_clean 53 = .ok (.iload_n 1, 1) := dk_27 (dk_at dksX52_clean_2 5 rfl rfl)
theorem dX52_clean_54 : decode cX52_clean 54 = .ok (.iload_n 2, 1) := dk_28 (dk_at dksX52_clean_2 6 rfl rfl)
theorem dX52_clean_55 : decode cX52_clean 55 = .ok (.invokevirtual 175, 3) := dk_182 0 175 (dk_at dksX52_clean_2 7 rfl rfl)
theorem dX52_clean_58 : decode cX52_clean 58 = .ok (.iinc 2 1, 3) := dk_132 2 1 (dk_at dksX52_clean_2 10 rfl rfl)
theorem dX52_clean_61 : decode cX52_clean 61 = .ok (.goto (-51), 3) := dk_167 255 205 (dk_at dksX52_clean_2 13 rfl rfl)
theorem dX52_clean_64 : decode cX52_clean 64 = .ok (.iinc 1 1, 3) := dk_132 1 1 (dk_at dksX52_clean_2 16 rfl rfl)
theorem dX52_clean_67 : decode cX52_clean 67 = .ok (.goto (-65), 3) := dk_167 255 191 (dk_at dksX52_clean_2 19 rfl rfl)
theorem dX52_clean_70 : decode cX52_clean 70 = .ok (.return_, 1) := dk_177 (dk_at dksX52_clean_2 22 rfl rfl)
abbrev cX52_aim : ByteArray := prog_63_method_28_code
def yX52_aim : MethodName := ⟨RX52, "aim", "(I)V"⟩
def dkwX52_aim_9 : List UInt8 := [180, 0, 66, 28, 46, 96, 47, 105, 101, 22, 6, 182, 0, 160, 132, 2, 1, 167, 255, 107, 177]
abbrev dktX52_aim_9 : List UInt8 := dkwX52_aim_9 ++ []
def dkwX52_aim_8 : List UInt8 := [16, 72, 28, 104, 42, 180, 0, 66, 28, 46, 96, 47, 105, 22, 4, 42, 180, 0, 59, 16, 72, 28, 104, 42]
abbrev dktX52_aim_8 : List UInt8 := dkwX52_aim_8 ++ dktX52_aim_9
def dkwX52_aim_7 : List UInt8 := [16, 72, 28, 104, 21, 8, 96, 182, 0, 164, 132, 8, 1, 167, 255, 217, 42, 29, 22, 4, 42, 180, 0, 63]
abbrev dktX52_aim_7 : List UInt8 := dkwX52_aim_7 ++ dktX52_aim_8
def dkwX52_aim_6 : List UInt8 := [16, 72, 162, 0, 38, 21, 8, 42, 180, 0, 66, 28, 46, 159, 0, 21, 42, 17, 1, 248, 21, 8, 96, 29]
abbrev dktX52_aim_6 : List UInt8 := dkwX52_aim_6 ++ dktX52_aim_7
def dkwX52_aim_5 : List UInt8 := [153, 0, 110, 42, 180, 0, 59, 29, 47, 55, 4, 42, 180, 0, 63, 29, 47, 55, 6, 3, 54, 8, 21, 8]
abbrev dktX52_aim_5 : List UInt8 := dkwX52_aim_5 ++ dktX52_aim_6
def dkwX52_aim_4 : List UInt8 := [28, 46, 96, 62, 42, 180, 0, 66, 28, 46, 16, 64, 162, 0, 121, 42, 180, 0, 59, 29, 47, 9, 148]
abbrev dktX52_aim_4 : List UInt8 := dkwX52_aim_4 ++ dktX52_aim_5
def dkwX52_aim_3 : List UInt8 := [182, 0, 160, 132, 2, 1, 167, 255, 182, 3, 61, 28, 16, 7, 162, 0, 149, 17, 1, 248, 42, 180, 0, 66]
abbrev dktX52_aim_3 : List UInt8 := dkwX52_aim_3 ++ dktX52_aim_4
def dkwX52_aim_2 : List UInt8 := [156, 0, 7, 9, 167, 0, 10, 42, 180, 0, 35, 28, 46, 133, 66, 42, 17, 1, 248, 28, 96, 33, 10]
abbrev dktX52_aim_2 : List UInt8 := dkwX52_aim_2 ++ dktX52_aim_3
def dkwX52_aim_1 : List UInt8 := [158, 0, 18, 28, 27, 160, 0, 9, 20, 0, 179, 167, 0, 27, 9, 167, 0, 23, 42, 180, 0, 35, 28, 46]
abbrev dktX52_aim_1 : List UInt8 := dkwX52_aim_1 ++ dktX52_aim_2
def dkwX52_aim_0 : List UInt8 := [3, 61, 28, 16, 72, 162, 0, 74, 28, 153, 0, 9, 28, 16, 64, 161, 0, 7, 9, 167, 0, 42, 27]
abbrev dktX52_aim_0 : List UInt8 := dkwX52_aim_0 ++ dktX52_aim_1
theorem dksX52_aim_0 : cX52_aim.data.toList.drop 0 = dktX52_aim_0 := by decide +kernel
theorem dksX52_aim_1 : cX52_aim.data.toList.drop 23 = dktX52_aim_1 := dk_seg dksX52_aim_0 23 rfl rfl
theorem dksX52_aim_2 : cX52_aim.data.toList.drop 47 = dktX52_aim_2 := dk_seg dksX52_aim_1 24 rfl rfl
theorem dksX52_aim_3 : cX52_aim.data.toList.drop 70 = dktX52_aim_3 := dk_seg dksX52_aim_2 23 rfl rfl
theorem dksX52_aim_4 : cX52_aim.data.toList.drop 94 = dktX52_aim_4 := dk_seg dksX52_aim_3 24 rfl rfl
theorem dksX52_aim_5 : cX52_aim.data.toList.drop 117 = dktX52_aim_5 := dk_seg dksX52_aim_4 23 rfl rfl
theorem dksX52_aim_6 : cX52_aim.data.toList.drop 141 = dktX52_aim_6 := dk_seg dksX52_aim_5 24 rfl rfl
theorem dksX52_aim_7 : cX52_aim.data.toList.drop 165 = dktX52_aim_7 := dk_seg dksX52_aim_6 24 rfl rfl
theorem dksX52_aim_8 : cX52_aim.data.toList.drop 189 = dktX52_aim_8 := dk_seg dksX52_aim_7 24 rfl rfl
theorem dksX52_aim_9 : cX52_aim.data.toList.drop 213 = dktX52_aim_9 := dk_seg dksX52_aim_8 24 rfl rfl
theorem dX52_aim_0 : decode cX52_aim 0 = .ok (.iconst 0, 1) := dk_3 (dk_at dksX52_aim_0 0 rfl rfl)
theorem dX52_aim_1 : decode cX52_aim 1 = .ok (.istore_n 2, 1) := dk_61 (dk_at dksX52_aim_0 1 rfl rfl)
theorem dX52_aim_2 : decode cX52_aim 2 = .ok (.iload_n 2, 1) := dk_28 (dk_at dksX52_aim_0 2 rfl rfl)
theorem dX52_aim_3 : decode cX52_aim 3 = .ok (.bipush 72, 2) := dk_16 72 (dk_at dksX52_aim_0 3 rfl rfl)
theorem dX52_aim_5 : decode cX52_aim 5 = .ok (.if_icmp .ge 74, 3) := dk_162 0 74 (dk_at dksX52_aim_0 5 rfl rfl)
theorem dX52_aim_8 : decode cX52_aim 8 = .ok (.iload_n 2, 1) := dk_28 (dk_at dksX52_aim_0 8 rfl rfl)
theorem dX52_aim_9 : decode cX52_aim 9 = .ok (.ifCond .eq 9, 3) := dk_153 0 9 (dk_at dksX52_aim_0 9 rfl rfl)
theorem dX52_aim_12 : decode cX52_aim 12 = .ok (.iload_n 2, 1) := dk_28 (dk_at dksX52_aim_0 12 rfl rfl)
theorem dX52_aim_13 : decode cX52_aim 13 = .ok (.bipush 64, 2) := dk_16 64 (dk_at dksX52_aim_0 13 rfl rfl)
theorem dX52_aim_15 : decode cX52_aim 15 = .ok (.if_icmp .lt 7, 3) := dk_161 0 7 (dk_at dksX52_aim_0 15 rfl rfl)
theorem dX52_aim_18 : decode cX52_aim 18 = .ok (.lconst 0, 1) := dk_9 (dk_at dksX52_aim_0 18 rfl rfl)
theorem dX52_aim_19 : decode cX52_aim 19 = .ok (.goto 42, 3) := dk_167 0 42 (dk_at dksX52_aim_0 19 rfl rfl)
theorem dX52_aim_22 : decode cX52_aim 22 = .ok (.iload_n 1, 1) := dk_27 (dk_at dksX52_aim_0 22 rfl rfl)
theorem dX52_aim_23 : decode cX52_aim 23 = .ok (.ifCond .le 18, 3) := dk_158 0 18 (dk_at dksX52_aim_1 0 rfl rfl)
theorem dX52_aim_26 : decode cX52_aim 26 = .ok (.iload_n 2, 1) := dk_28 (dk_at dksX52_aim_1 3 rfl rfl)
theorem dX52_aim_27 : decode cX52_aim 27 = .ok (.iload_n 1, 1) := dk_27 (dk_at dksX52_aim_1 4 rfl rfl)
theorem dX52_aim_28 : decode cX52_aim 28 = .ok (.if_icmp .ne 9, 3) := dk_160 0 9 (dk_at dksX52_aim_1 5 rfl rfl)
theorem dX52_aim_31 : decode cX52_aim 31 = .ok (.ldc2_w 179, 3) := dk_20 0 179 (dk_at dksX52_aim_1 8 rfl rfl)
theorem dX52_aim_34 : decode cX52_aim 34 = .ok (.goto 27, 3) := dk_167 0 27 (dk_at dksX52_aim_1 11 rfl rfl)
theorem dX52_aim_37 : decode cX52_aim 37 = .ok (.lconst 0, 1) := dk_9 (dk_at dksX52_aim_1 14 rfl rfl)
theorem dX52_aim_38 : decode cX52_aim 38 = .ok (.goto 23, 3) := dk_167 0 23 (dk_at dksX52_aim_1 15 rfl rfl)
theorem dX52_aim_41 : decode cX52_aim 41 = .ok (.aload_n 0, 1) := dk_42 (dk_at dksX52_aim_1 18 rfl rfl)
theorem dX52_aim_42 : decode cX52_aim 42 = .ok (.getfield 35, 3) := dk_180 0 35 (dk_at dksX52_aim_1 19 rfl rfl)
theorem dX52_aim_45 : decode cX52_aim 45 = .ok (.iload_n 2, 1) := dk_28 (dk_at dksX52_aim_1 22 rfl rfl)
theorem dX52_aim_46 : decode cX52_aim 46 = .ok (.iaload, 1) := dk_46 (dk_at dksX52_aim_1 23 rfl rfl)
theorem dX52_aim_47 : decode cX52_aim 47 = .ok (.ifCond .ge 7, 3) := dk_156 0 7 (dk_at dksX52_aim_2 0 rfl rfl)
theorem dX52_aim_50 : decode cX52_aim 50 = .ok (.lconst 0, 1) := dk_9 (dk_at dksX52_aim_2 3 rfl rfl)
theorem dX52_aim_51 : decode cX52_aim 51 = .ok (.goto 10, 3) := dk_167 0 10 (dk_at dksX52_aim_2 4 rfl rfl)
theorem dX52_aim_54 : decode cX52_aim 54 = .ok (.aload_n 0, 1) := dk_42 (dk_at dksX52_aim_2 7 rfl rfl)
theorem dX52_aim_55 : decode cX52_aim 55 = .ok (.getfield 35, 3) := dk_180 0 35 (dk_at dksX52_aim_2 8 rfl rfl)
theorem dX52_aim_58 : decode cX52_aim 58 = .ok (.iload_n 2, 1) := dk_28 (dk_at dksX52_aim_2 11 rfl rfl)
theorem dX52_aim_59 : decode cX52_aim 59 = .ok (.iaload, 1) := dk_46 (dk_at dksX52_aim_2 12 rfl rfl)
theorem dX52_aim_60 : decode cX52_aim 60 = .ok (.i2l, 1) := dk_133 (dk_at dksX52_aim_2 13 rfl rfl)
theorem dX52_aim_61 : decode cX52_aim 61 = .ok (.lstore_n 3, 1) := dk_66 (dk_at dksX52_aim_2 14 rfl rfl)
theorem dX52_aim_62 : decode cX52_aim 62 = .ok (.aload_n 0, 1) := dk_42 (dk_at dksX52_aim_2 15 rfl rfl)
theorem dX52_aim_63 : decode cX52_aim 63 = .ok (.sipush 504, 3) := dk_17 1 248 (dk_at dksX52_aim_2 16 rfl rfl)
theorem dX52_aim_66 : decode cX52_aim 66 = .ok (.iload_n 2, 1) := dk_28 (dk_at dksX52_aim_2 19 rfl rfl)
theorem dX52_aim_67 : decode cX52_aim 67 = .ok (.iadd, 1) := dk_96 (dk_at dksX52_aim_2 20 rfl rfl)
theorem dX52_aim_68 : decode cX52_aim 68 = .ok (.lload_n 3, 1) := dk_33 (dk_at dksX52_aim_2 21 rfl rfl)
theorem dX52_aim_69 : decode cX52_aim 69 = .ok (.lconst 1, 1) := dk_10 (dk_at dksX52_aim_2 22 rfl rfl)
theorem dX52_aim_70 : decode cX52_aim 70 = .ok (.invokevirtual 160, 3) := dk_182 0 160 (dk_at dksX52_aim_3 0 rfl rfl)
theorem dX52_aim_73 : decode cX52_aim 73 = .ok (.iinc 2 1, 3) := dk_132 2 1 (dk_at dksX52_aim_3 3 rfl rfl)
theorem dX52_aim_76 : decode cX52_aim 76 = .ok (.goto (-74), 3) := dk_167 255 182 (dk_at dksX52_aim_3 6 rfl rfl)
theorem dX52_aim_79 : decode cX52_aim 79 = .ok (.iconst 0, 1) := dk_3 (dk_at dksX52_aim_3 9 rfl rfl)
theorem dX52_aim_80 : decode cX52_aim 80 = .ok (.istore_n 2, 1) := dk_61 (dk_at dksX52_aim_3 10 rfl rfl)
theorem dX52_aim_81 : decode cX52_aim 81 = .ok (.iload_n 2, 1) := dk_28 (dk_at dksX52_aim_3 11 rfl rfl)
theorem dX52_aim_82 : decode cX52_aim 82 = .ok (.bipush 7, 2) := dk_16 7 (dk_at dksX52_aim_3 12 rfl rfl)
theorem dX52_aim_84 : decode cX52_aim 84 = .ok (.if_icmp .ge 149, 3) := dk_162 0 149 (dk_at dksX52_aim_3 14 rfl rfl)
theorem dX52_aim_87 : decode cX52_aim 87 = .ok (.sipush 504, 3) := dk_17 1 248 (dk_at dksX52_aim_3 17 rfl rfl)
theorem dX52_aim_90 : decode cX52_aim 90 = .ok (.aload_n 0, 1) := dk_42 (dk_at dksX52_aim_3 20 rfl rfl)
theorem dX52_aim_91 : decode cX52_aim 91 = .ok (.getfield 66, 3) := dk_180 0 66 (dk_at dksX52_aim_3 21 rfl rfl)
theorem dX52_aim_94 : decode cX52_aim 94 = .ok (.iload_n 2, 1) := dk_28 (dk_at dksX52_aim_4 0 rfl rfl)
theorem dX52_aim_95 : decode cX52_aim 95 = .ok (.iaload, 1) := dk_46 (dk_at dksX52_aim_4 1 rfl rfl)
theorem dX52_aim_96 : decode cX52_aim 96 = .ok (.iadd, 1) := dk_96 (dk_at dksX52_aim_4 2 rfl rfl)
theorem dX52_aim_97 : decode cX52_aim 97 = .ok (.istore_n 3, 1) := dk_62 (dk_at dksX52_aim_4 3 rfl rfl)
theorem dX52_aim_98 : decode cX52_aim 98 = .ok (.aload_n 0, 1) := dk_42 (dk_at dksX52_aim_4 4 rfl rfl)
theorem dX52_aim_99 : decode cX52_aim 99 = .ok (.getfield 66, 3) := dk_180 0 66 (dk_at dksX52_aim_4 5 rfl rfl)
theorem dX52_aim_102 : decode cX52_aim 102 = .ok (.iload_n 2, 1) := dk_28 (dk_at dksX52_aim_4 8 rfl rfl)
theorem dX52_aim_103 : decode cX52_aim 103 = .ok (.iaload, 1) := dk_46 (dk_at dksX52_aim_4 9 rfl rfl)
theorem dX52_aim_104 : decode cX52_aim 104 = .ok (.bipush 64, 2) := dk_16 64 (dk_at dksX52_aim_4 10 rfl rfl)
theorem dX52_aim_106 : decode cX52_aim 106 = .ok (.if_icmp .ge 121, 3) := dk_162 0 121 (dk_at dksX52_aim_4 12 rfl rfl)
theorem dX52_aim_109 : decode cX52_aim 109 = .ok (.aload_n 0, 1) := dk_42 (dk_at dksX52_aim_4 15 rfl rfl)
theorem dX52_aim_110 : decode cX52_aim 110 = .ok (.getfield 59, 3) := dk_180 0 59 (dk_at dksX52_aim_4 16 rfl rfl)
theorem dX52_aim_113 : decode cX52_aim 113 = .ok (.iload_n 3, 1) := dk_29 (dk_at dksX52_aim_4 19 rfl rfl)
theorem dX52_aim_114 : decode cX52_aim 114 = .ok (.laload, 1) := dk_47 (dk_at dksX52_aim_4 20 rfl rfl)
theorem dX52_aim_115 : decode cX52_aim 115 = .ok (.lconst 0, 1) := dk_9 (dk_at dksX52_aim_4 21 rfl rfl)
theorem dX52_aim_116 : decode cX52_aim 116 = .ok (.lcmp, 1) := dk_148 (dk_at dksX52_aim_4 22 rfl rfl)
theorem dX52_aim_117 : decode cX52_aim 117 = .ok (.ifCond .eq 110, 3) := dk_153 0 110 (dk_at dksX52_aim_5 0 rfl rfl)
theorem dX52_aim_120 : decode cX52_aim 120 = .ok (.aload_n 0, 1) := dk_42 (dk_at dksX52_aim_5 3 rfl rfl)
theorem dX52_aim_121 : decode cX52_aim 121 = .ok (.getfield 59, 3) := dk_180 0 59 (dk_at dksX52_aim_5 4 rfl rfl)
theorem dX52_aim_124 : decode cX52_aim 124 = .ok (.iload_n 3, 1) := dk_29 (dk_at dksX52_aim_5 7 rfl rfl)
theorem dX52_aim_125 : decode cX52_aim 125 = .ok (.laload, 1) := dk_47 (dk_at dksX52_aim_5 8 rfl rfl)
theorem dX52_aim_126 : decode cX52_aim 126 = .ok (.lstore 4, 2) := dk_55 4 (dk_at dksX52_aim_5 9 rfl rfl)
theorem dX52_aim_128 : decode cX52_aim 128 = .ok (.aload_n 0, 1) := dk_42 (dk_at dksX52_aim_5 11 rfl rfl)
theorem dX52_aim_129 : decode cX52_aim 129 = .ok (.getfield 63, 3) := dk_180 0 63 (dk_at dksX52_aim_5 12 rfl rfl)
theorem dX52_aim_132 : decode cX52_aim 132 = .ok (.iload_n 3, 1) := dk_29 (dk_at dksX52_aim_5 15 rfl rfl)
theorem dX52_aim_133 : decode cX52_aim 133 = .ok (.laload, 1) := dk_47 (dk_at dksX52_aim_5 16 rfl rfl)
theorem dX52_aim_134 : decode cX52_aim 134 = .ok (.lstore 6, 2) := dk_55 6 (dk_at dksX52_aim_5 17 rfl rfl)
theorem dX52_aim_136 : decode cX52_aim 136 = .ok (.iconst 0, 1) := dk_3 (dk_at dksX52_aim_5 19 rfl rfl)
theorem dX52_aim_137 : decode cX52_aim 137 = .ok (.istore 8, 2) := dk_54 8 (dk_at dksX52_aim_5 20 rfl rfl)
theorem dX52_aim_139 : decode cX52_aim 139 = .ok (.iload 8, 2) := dk_21 8 (dk_at dksX52_aim_5 22 rfl rfl)
theorem dX52_aim_141 : decode cX52_aim 141 = .ok (.bipush 72, 2) := dk_16 72 (dk_at dksX52_aim_6 0 rfl rfl)
theorem dX52_aim_143 : decode cX52_aim 143 = .ok (.if_icmp .ge 38, 3) := dk_162 0 38 (dk_at dksX52_aim_6 2 rfl rfl)
theorem dX52_aim_146 : decode cX52_aim 146 = .ok (.iload 8, 2) := dk_21 8 (dk_at dksX52_aim_6 5 rfl rfl)
theorem dX52_aim_148 : decode cX52_aim 148 = .ok (.aload_n 0, 1) := dk_42 (dk_at dksX52_aim_6 7 rfl rfl)
theorem dX52_aim_149 : decode cX52_aim 149 = .ok (.getfield 66, 3) := dk_180 0 66 (dk_at dksX52_aim_6 8 rfl rfl)
theorem dX52_aim_152 : decode cX52_aim 152 = .ok (.iload_n 2, 1) := dk_28 (dk_at dksX52_aim_6 11 rfl rfl)
theorem dX52_aim_153 : decode cX52_aim 153 = .ok (.iaload, 1) := dk_46 (dk_at dksX52_aim_6 12 rfl rfl)
theorem dX52_aim_154 : decode cX52_aim 154 = .ok (.if_icmp .eq 21, 3) := dk_159 0 21 (dk_at dksX52_aim_6 13 rfl rfl)
theorem dX52_aim_157 : decode cX52_aim 157 = .ok (.aload_n 0, 1) := dk_42 (dk_at dksX52_aim_6 16 rfl rfl)
theorem dX52_aim_158 : decode cX52_aim 158 = .ok (.sipush 504, 3) := dk_17 1 248 (dk_at dksX52_aim_6 17 rfl rfl)
theorem dX52_aim_161 : decode cX52_aim 161 = .ok (.iload 8, 2) := dk_21 8 (dk_at dksX52_aim_6 20 rfl rfl)
theorem dX52_aim_163 : decode cX52_aim 163 = .ok (.iadd, 1) := dk_96 (dk_at dksX52_aim_6 22 rfl rfl)
theorem dX52_aim_164 : decode cX52_aim 164 = .ok (.iload_n 3, 1) := dk_29 (dk_at dksX52_aim_6 23 rfl rfl)
theorem dX52_aim_165 : decode cX52_aim 165 = .ok (.bipush 72, 2) := dk_16 72 (dk_at dksX52_aim_7 0 rfl rfl)
theorem dX52_aim_167 : decode cX52_aim 167 = .ok (.iload_n 2, 1) := dk_28 (dk_at dksX52_aim_7 2 rfl rfl)
theorem dX52_aim_168 : decode cX52_aim 168 = .ok (.imul, 1) := dk_104 (dk_at dksX52_aim_7 3 rfl rfl)
theorem dX52_aim_169 : decode cX52_aim 169 = .ok (.iload 8, 2) := dk_21 8 (dk_at dksX52_aim_7 4 rfl rfl)
theorem dX52_aim_171 : decode cX52_aim 171 = .ok (.iadd, 1) := dk_96 (dk_at dksX52_aim_7 6 rfl rfl)
theorem dX52_aim_172 : decode cX52_aim 172 = .ok (.invokevirtual 164, 3) := dk_182 0 164 (dk_at dksX52_aim_7 7 rfl rfl)
theorem dX52_aim_175 : decode cX52_aim 175 = .ok (.iinc 8 1, 3) := dk_132 8 1 (dk_at dksX52_aim_7 10 rfl rfl)
theorem dX52_aim_178 : decode cX52_aim 178 = .ok (.goto (-39), 3) := dk_167 255 217 (dk_at dksX52_aim_7 13 rfl rfl)
theorem dX52_aim_181 : decode cX52_aim 181 = .ok (.aload_n 0, 1) := dk_42 (dk_at dksX52_aim_7 16 rfl rfl)
theorem dX52_aim_182 : decode cX52_aim 182 = .ok (.iload_n 3, 1) := dk_29 (dk_at dksX52_aim_7 17 rfl rfl)
theorem dX52_aim_183 : decode cX52_aim 183 = .ok (.lload 4, 2) := dk_22 4 (dk_at dksX52_aim_7 18 rfl rfl)
theorem dX52_aim_185 : decode cX52_aim 185 = .ok (.aload_n 0, 1) := dk_42 (dk_at dksX52_aim_7 20 rfl rfl)
theorem dX52_aim_186 : decode cX52_aim 186 = .ok (.getfield 63, 3) := dk_180 0 63 (dk_at dksX52_aim_7 21 rfl rfl)
theorem dX52_aim_189 : decode cX52_aim 189 = .ok (.bipush 72, 2) := dk_16 72 (dk_at dksX52_aim_8 0 rfl rfl)
theorem dX52_aim_191 : decode cX52_aim 191 = .ok (.iload_n 2, 1) := dk_28 (dk_at dksX52_aim_8 2 rfl rfl)
theorem dX52_aim_192 : decode cX52_aim 192 = .ok (.imul, 1) := dk_104 (dk_at dksX52_aim_8 3 rfl rfl)
theorem dX52_aim_193 : decode cX52_aim 193 = .ok (.aload_n 0, 1) := dk_42 (dk_at dksX52_aim_8 4 rfl rfl)
theorem dX52_aim_194 : decode cX52_aim 194 = .ok (.getfield 66, 3) := dk_180 0 66 (dk_at dksX52_aim_8 5 rfl rfl)
theorem dX52_aim_197 : decode cX52_aim 197 = .ok (.iload_n 2, 1) := dk_28 (dk_at dksX52_aim_8 8 rfl rfl)
theorem dX52_aim_198 : decode cX52_aim 198 = .ok (.iaload, 1) := dk_46 (dk_at dksX52_aim_8 9 rfl rfl)
theorem dX52_aim_199 : decode cX52_aim 199 = .ok (.iadd, 1) := dk_96 (dk_at dksX52_aim_8 10 rfl rfl)
theorem dX52_aim_200 : decode cX52_aim 200 = .ok (.laload, 1) := dk_47 (dk_at dksX52_aim_8 11 rfl rfl)
theorem dX52_aim_201 : decode cX52_aim 201 = .ok (.lmul, 1) := dk_105 (dk_at dksX52_aim_8 12 rfl rfl)
theorem dX52_aim_202 : decode cX52_aim 202 = .ok (.lload 4, 2) := dk_22 4 (dk_at dksX52_aim_8 13 rfl rfl)
theorem dX52_aim_204 : decode cX52_aim 204 = .ok (.aload_n 0, 1) := dk_42 (dk_at dksX52_aim_8 15 rfl rfl)
theorem dX52_aim_205 : decode cX52_aim 205 = .ok (.getfield 59, 3) := dk_180 0 59 (dk_at dksX52_aim_8 16 rfl rfl)
theorem dX52_aim_208 : decode cX52_aim 208 = .ok (.bipush 72, 2) := dk_16 72 (dk_at dksX52_aim_8 19 rfl rfl)
theorem dX52_aim_210 : decode cX52_aim 210 = .ok (.iload_n 2, 1) := dk_28 (dk_at dksX52_aim_8 21 rfl rfl)
theorem dX52_aim_211 : decode cX52_aim 211 = .ok (.imul, 1) := dk_104 (dk_at dksX52_aim_8 22 rfl rfl)
theorem dX52_aim_212 : decode cX52_aim 212 = .ok (.aload_n 0, 1) := dk_42 (dk_at dksX52_aim_8 23 rfl rfl)
theorem dX52_aim_213 : decode cX52_aim 213 = .ok (.getfield 66, 3) := dk_180 0 66 (dk_at dksX52_aim_9 0 rfl rfl)
theorem dX52_aim_216 : decode cX52_aim 216 = .ok (.iload_n 2, 1) := dk_28 (dk_at dksX52_aim_9 3 rfl rfl)
theorem dX52_aim_217 : decode cX52_aim 217 = .ok (.iaload, 1) := dk_46 (dk_at dksX52_aim_9 4 rfl rfl)
theorem dX52_aim_218 : decode cX52_aim 218 = .ok (.iadd, 1) := dk_96 (dk_at dksX52_aim_9 5 rfl rfl)
theorem dX52_aim_219 : decode cX52_aim 219 = .ok (.laload, 1) := dk_47 (dk_at dksX52_aim_9 6 rfl rfl)
theorem dX52_aim_220 : decode cX52_aim 220 = .ok (.lmul, 1) := dk_105 (dk_at dksX52_aim_9 7 rfl rfl)
theorem dX52_aim_221 : decode cX52_aim 221 = .ok (.lsub, 1) := dk_101 (dk_at dksX52_aim_9 8 rfl rfl)
theorem dX52_aim_222 : decode cX52_aim 222 = .ok (.lload 6, 2) := dk_22 6 (dk_at dksX52_aim_9 9 rfl rfl)
theorem dX52_aim_224 : decode cX52_aim 224 = .ok (.invokevirtual 160, 3) := dk_182 0 160 (dk_at dksX52_aim_9 11 rfl rfl)
theorem dX52_aim_227 : decode cX52_aim 227 = .ok (.iinc 2 1, 3) := dk_132 2 1 (dk_at dksX52_aim_9 14 rfl rfl)
theorem dX52_aim_230 : decode cX52_aim 230 = .ok (.goto (-149), 3) := dk_167 255 107 (dk_at dksX52_aim_9 17 rfl rfl)
theorem dX52_aim_233 : decode cX52_aim 233 = .ok (.return_, 1) := dk_177 (dk_at dksX52_aim_9 20 rfl rfl)
abbrev cX52_steps : ByteArray := prog_63_method_32_code
def yX52_steps : MethodName := ⟨RX52, "steps", "()I"⟩
def dkwX52_steps_1 : List UInt8 := [153, 0, 7, 4, 167, 0, 4, 3, 96, 60, 132, 2, 1, 167, 255, 229, 27, 172]
abbrev dktX52_steps_1 : List UInt8 := dkwX52_steps_1 ++ []
def dkwX52_steps_0 : List UInt8 := [42, 3, 181, 0, 72, 3, 60, 3, 61, 28, 17, 1, 128, 162, 0, 26, 27, 42, 180, 0, 28, 28, 51]
abbrev dktX52_steps_0 : List UInt8 := dkwX52_steps_0 ++ dktX52_steps_1
theorem dksX52_steps_0 : cX52_steps.data.toList.drop 0 = dktX52_steps_0 := by decide +kernel
theorem dksX52_steps_1 : cX52_steps.data.toList.drop 23 = dktX52_steps_1 := dk_seg dksX52_steps_0 23 rfl rfl
theorem dX52_steps_0 : decode cX52_steps 0 = .ok (.aload_n 0, 1) := dk_42 (dk_at dksX52_steps_0 0 rfl rfl)
theorem dX52_steps_1 : decode cX52_steps 1 = .ok (.iconst 0, 1) := dk_3 (dk_at dksX52_steps_0 1 rfl rfl)
theorem dX52_steps_2 : decode cX52_steps 2 = .ok (.putfield 72, 3) := dk_181 0 72 (dk_at dksX52_steps_0 2 rfl rfl)
theorem dX52_steps_5 : decode cX52_steps 5 = .ok (.iconst 0, 1) := dk_3 (dk_at dksX52_steps_0 5 rfl rfl)
theorem dX52_steps_6 : decode cX52_steps 6 = .ok (.istore_n 1, 1) := dk_60 (dk_at dksX52_steps_0 6 rfl rfl)
theorem dX52_steps_7 : decode cX52_steps 7 = .ok (.iconst 0, 1) := dk_3 (dk_at dksX52_steps_0 7 rfl rfl)
theorem dX52_steps_8 : decode cX52_steps 8 = .ok (.istore_n 2, 1) := dk_61 (dk_at dksX52_steps_0 8 rfl rfl)
theorem dX52_steps_9 : decode cX52_steps 9 = .ok (.iload_n 2, 1) := dk_28 (dk_at dksX52_steps_0 9 rfl rfl)
theorem dX52_steps_10 : decode cX52_steps 10 = .ok (.sipush 384, 3) := dk_17 1 128 (dk_at dksX52_steps_0 10 rfl rfl)
theorem dX52_steps_13 : decode cX52_steps 13 = .ok (.if_icmp .ge 26, 3) := dk_162 0 26 (dk_at dksX52_steps_0 13 rfl rfl)
theorem dX52_steps_16 : decode cX52_steps 16 = .ok (.iload_n 1, 1) := dk_27 (dk_at dksX52_steps_0 16 rfl rfl)
theorem dX52_steps_17 : decode cX52_steps 17 = .ok (.aload_n 0, 1) := dk_42 (dk_at dksX52_steps_0 17 rfl rfl)
theorem dX52_steps_18 : decode cX52_steps 18 = .ok (.getfield 28, 3) := dk_180 0 28 (dk_at dksX52_steps_0 18 rfl rfl)
theorem dX52_steps_21 : decode cX52_steps 21 = .ok (.iload_n 2, 1) := dk_28 (dk_at dksX52_steps_0 21 rfl rfl)
theorem dX52_steps_22 : decode cX52_steps 22 = .ok (.baload, 1) := dk_51 (dk_at dksX52_steps_0 22 rfl rfl)
theorem dX52_steps_23 : decode cX52_steps 23 = .ok (.ifCond .eq 7, 3) := dk_153 0 7 (dk_at dksX52_steps_1 0 rfl rfl)
theorem dX52_steps_26 : decode cX52_steps 26 = .ok (.iconst 1, 1) := dk_4 (dk_at dksX52_steps_1 3 rfl rfl)
theorem dX52_steps_27 : decode cX52_steps 27 = .ok (.goto 4, 3) := dk_167 0 4 (dk_at dksX52_steps_1 4 rfl rfl)
theorem dX52_steps_30 : decode cX52_steps 30 = .ok (.iconst 0, 1) := dk_3 (dk_at dksX52_steps_1 7 rfl rfl)
theorem dX52_steps_31 : decode cX52_steps 31 = .ok (.iadd, 1) := dk_96 (dk_at dksX52_steps_1 8 rfl rfl)
theorem dX52_steps_32 : decode cX52_steps 32 = .ok (.istore_n 1, 1) := dk_60 (dk_at dksX52_steps_1 9 rfl rfl)
theorem dX52_steps_33 : decode cX52_steps 33 = .ok (.iinc 2 1, 3) := dk_132 2 1 (dk_at dksX52_steps_1 10 rfl rfl)
theorem dX52_steps_36 : decode cX52_steps 36 = .ok (.goto (-27), 3) := dk_167 255 229 (dk_at dksX52_steps_1 13 rfl rfl)
theorem dX52_steps_39 : decode cX52_steps 39 = .ok (.iload_n 1, 1) := dk_27 (dk_at dksX52_steps_1 16 rfl rfl)
theorem dX52_steps_40 : decode cX52_steps 40 = .ok (.ireturn, 1) := dk_172 (dk_at dksX52_steps_1 17 rfl rfl)
abbrev cX52_columns : ByteArray := prog_63_method_33_code
def yX52_columns : MethodName := ⟨RX52, "columns", "()I"⟩
def dkwX52_columns_1 : List UInt8 := [155, 0, 7, 4, 167, 0, 4, 3, 96, 60, 132, 2, 1, 167, 255, 230, 27, 172]
abbrev dktX52_columns_1 : List UInt8 := dkwX52_columns_1 ++ []
def dkwX52_columns_0 : List UInt8 := [42, 3, 181, 0, 72, 3, 60, 3, 61, 28, 16, 64, 162, 0, 26, 27, 42, 180, 0, 35, 28, 46]
abbrev dktX52_columns_0 : List UInt8 := dkwX52_columns_0 ++ dktX52_columns_1
theorem dksX52_columns_0 : cX52_columns.data.toList.drop 0 = dktX52_columns_0 := by decide +kernel
theorem dksX52_columns_1 : cX52_columns.data.toList.drop 22 = dktX52_columns_1 := dk_seg dksX52_columns_0 22 rfl rfl
theorem dX52_columns_0 : decode cX52_columns 0 = .ok (.aload_n 0, 1) := dk_42 (dk_at dksX52_columns_0 0 rfl rfl)
theorem dX52_columns_1 : decode cX52_columns 1 = .ok (.iconst 0, 1) := dk_3 (dk_at dksX52_columns_0 1 rfl rfl)
theorem dX52_columns_2 : decode cX52_columns 2 = .ok (.putfield 72, 3) := dk_181 0 72 (dk_at dksX52_columns_0 2 rfl rfl)
theorem dX52_columns_5 : decode cX52_columns 5 = .ok (.iconst 0, 1) := dk_3 (dk_at dksX52_columns_0 5 rfl rfl)
theorem dX52_columns_6 : decode cX52_columns 6 = .ok (.istore_n 1, 1) := dk_60 (dk_at dksX52_columns_0 6 rfl rfl)
theorem dX52_columns_7 : decode cX52_columns 7 = .ok (.iconst 0, 1) := dk_3 (dk_at dksX52_columns_0 7 rfl rfl)
theorem dX52_columns_8 : decode cX52_columns 8 = .ok (.istore_n 2, 1) := dk_61 (dk_at dksX52_columns_0 8 rfl rfl)
theorem dX52_columns_9 : decode cX52_columns 9 = .ok (.iload_n 2, 1) := dk_28 (dk_at dksX52_columns_0 9 rfl rfl)
theorem dX52_columns_10 : decode cX52_columns 10 = .ok (.bipush 64, 2) := dk_16 64 (dk_at dksX52_columns_0 10 rfl rfl)
theorem dX52_columns_12 : decode cX52_columns 12 = .ok (.if_icmp .ge 26, 3) := dk_162 0 26 (dk_at dksX52_columns_0 12 rfl rfl)
theorem dX52_columns_15 : decode cX52_columns 15 = .ok (.iload_n 1, 1) := dk_27 (dk_at dksX52_columns_0 15 rfl rfl)
theorem dX52_columns_16 : decode cX52_columns 16 = .ok (.aload_n 0, 1) := dk_42 (dk_at dksX52_columns_0 16 rfl rfl)
theorem dX52_columns_17 : decode cX52_columns 17 = .ok (.getfield 35, 3) := dk_180 0 35 (dk_at dksX52_columns_0 17 rfl rfl)
theorem dX52_columns_20 : decode cX52_columns 20 = .ok (.iload_n 2, 1) := dk_28 (dk_at dksX52_columns_0 20 rfl rfl)
theorem dX52_columns_21 : decode cX52_columns 21 = .ok (.iaload, 1) := dk_46 (dk_at dksX52_columns_0 21 rfl rfl)
theorem dX52_columns_22 : decode cX52_columns 22 = .ok (.ifCond .lt 7, 3) := dk_155 0 7 (dk_at dksX52_columns_1 0 rfl rfl)
theorem dX52_columns_25 : decode cX52_columns 25 = .ok (.iconst 1, 1) := dk_4 (dk_at dksX52_columns_1 3 rfl rfl)
theorem dX52_columns_26 : decode cX52_columns 26 = .ok (.goto 4, 3) := dk_167 0 4 (dk_at dksX52_columns_1 4 rfl rfl)
theorem dX52_columns_29 : decode cX52_columns 29 = .ok (.iconst 0, 1) := dk_3 (dk_at dksX52_columns_1 7 rfl rfl)
theorem dX52_columns_30 : decode cX52_columns 30 = .ok (.iadd, 1) := dk_96 (dk_at dksX52_columns_1 8 rfl rfl)
theorem dX52_columns_31 : decode cX52_columns 31 = .ok (.istore_n 1, 1) := dk_60 (dk_at dksX52_columns_1 9 rfl rfl)
theorem dX52_columns_32 : decode cX52_columns 32 = .ok (.iinc 2 1, 3) := dk_132 2 1 (dk_at dksX52_columns_1 10 rfl rfl)
theorem dX52_columns_35 : decode cX52_columns 35 = .ok (.goto (-26), 3) := dk_167 255 230 (dk_at dksX52_columns_1 13 rfl rfl)
theorem dX52_columns_38 : decode cX52_columns 38 = .ok (.iload_n 1, 1) := dk_27 (dk_at dksX52_columns_1 16 rfl rfl)
theorem dX52_columns_39 : decode cX52_columns 39 = .ok (.ireturn, 1) := dk_172 (dk_at dksX52_columns_1 17 rfl rfl)
abbrev cX52_column : ByteArray := prog_63_method_35_code
def yX52_column : MethodName := ⟨RX52, "column", "(II)I"⟩
def dkwX52_column_1 : List UInt8 := [162, 0, 17, 42, 180, 0, 38, 16, 6, 29, 104, 28, 96, 46, 167, 0, 4, 2, 172]
abbrev dktX52_column_1 : List UInt8 := dkwX52_column_1 ++ []
def dkwX52_column_0 : List UInt8 := [42, 3, 181, 0, 72, 42, 27, 182, 0, 194, 62, 29, 158, 0, 27, 28, 155, 0, 23, 28, 16, 6]
abbrev dktX52_column_0 : List UInt8 := dkwX52_column_0 ++ dktX52_column_1
theorem dksX52_column_0 : cX52_column.data.toList.drop 0 = dktX52_column_0 := by decide +kernel
theorem dksX52_column_1 : cX52_column.data.toList.drop 22 = dktX52_column_1 := dk_seg dksX52_column_0 22 rfl rfl
theorem dX52_column_0 : decode cX52_column 0 = .ok (.aload_n 0, 1) := dk_42 (dk_at dksX52_column_0 0 rfl rfl)
theorem dX52_column_1 : decode cX52_column 1 = .ok (.iconst 0, 1) := dk_3 (dk_at dksX52_column_0 1 rfl rfl)
theorem dX52_column_2 : decode cX52_column 2 = .ok (.putfield 72, 3) := dk_181 0 72 (dk_at dksX52_column_0 2 rfl rfl)
theorem dX52_column_5 : decode cX52_column 5 = .ok (.aload_n 0, 1) := dk_42 (dk_at dksX52_column_0 5 rfl rfl)
theorem dX52_column_6 : decode cX52_column 6 = .ok (.iload_n 1, 1) := dk_27 (dk_at dksX52_column_0 6 rfl rfl)
theorem dX52_column_7 : decode cX52_column 7 = .ok (.invokevirtual 194, 3) := dk_182 0 194 (dk_at dksX52_column_0 7 rfl rfl)
theorem dX52_column_10 : decode cX52_column 10 = .ok (.istore_n 3, 1) := dk_62 (dk_at dksX52_column_0 10 rfl rfl)
theorem dX52_column_11 : decode cX52_column 11 = .ok (.iload_n 3, 1) := dk_29 (dk_at dksX52_column_0 11 rfl rfl)
theorem dX52_column_12 : decode cX52_column 12 = .ok (.ifCond .le 27, 3) := dk_158 0 27 (dk_at dksX52_column_0 12 rfl rfl)
theorem dX52_column_15 : decode cX52_column 15 = .ok (.iload_n 2, 1) := dk_28 (dk_at dksX52_column_0 15 rfl rfl)
theorem dX52_column_16 : decode cX52_column 16 = .ok (.ifCond .lt 23, 3) := dk_155 0 23 (dk_at dksX52_column_0 16 rfl rfl)
theorem dX52_column_19 : decode cX52_column 19 = .ok (.iload_n 2, 1) := dk_28 (dk_at dksX52_column_0 19 rfl rfl)
theorem dX52_column_20 : decode cX52_column 20 = .ok (.bipush 6, 2) := dk_16 6 (dk_at dksX52_column_0 20 rfl rfl)
theorem dX52_column_22 : decode cX52_column 22 = .ok (.if_icmp .ge 17, 3) := dk_162 0 17 (dk_at dksX52_column_1 0 rfl rfl)
theorem dX52_column_25 : decode cX52_column 25 = .ok (.aload_n 0, 1) := dk_42 (dk_at dksX52_column_1 3 rfl rfl)
theorem dX52_column_26 : decode cX52_column 26 = .ok (.getfield 38, 3) := dk_180 0 38 (dk_at dksX52_column_1 4 rfl rfl)
theorem dX52_column_29 : decode cX52_column 29 = .ok (.bipush 6, 2) := dk_16 6 (dk_at dksX52_column_1 7 rfl rfl)
theorem dX52_column_31 : decode cX52_column 31 = .ok (.iload_n 3, 1) := dk_29 (dk_at dksX52_column_1 9 rfl rfl)
theorem dX52_column_32 : decode cX52_column 32 = .ok (.imul, 1) := dk_104 (dk_at dksX52_column_1 10 rfl rfl)
theorem dX52_column_33 : decode cX52_column 33 = .ok (.iload_n 2, 1) := dk_28 (dk_at dksX52_column_1 11 rfl rfl)
theorem dX52_column_34 : decode cX52_column 34 = .ok (.iadd, 1) := dk_96 (dk_at dksX52_column_1 12 rfl rfl)
theorem dX52_column_35 : decode cX52_column 35 = .ok (.iaload, 1) := dk_46 (dk_at dksX52_column_1 13 rfl rfl)
theorem dX52_column_36 : decode cX52_column 36 = .ok (.goto 4, 3) := dk_167 0 4 (dk_at dksX52_column_1 14 rfl rfl)
theorem dX52_column_39 : decode cX52_column 39 = .ok (.iconst (-1), 1) := dk_2 (dk_at dksX52_column_1 17 rfl rfl)
theorem dX52_column_40 : decode cX52_column 40 = .ok (.ireturn, 1) := dk_172 (dk_at dksX52_column_1 18 rfl rfl)
abbrev cX52_bound : ByteArray := prog_63_method_36_code
def yX52_bound : MethodName := ⟨RX52, "bound", "(I)J"⟩
def dkwX52_bound_1 : List UInt8 := [42, 27, 182, 0, 197, 167, 0, 4, 9, 173]
abbrev dktX52_bound_1 : List UInt8 := dkwX52_bound_1 ++ []
def dkwX52_bound_0 : List UInt8 := [42, 3, 181, 0, 72, 42, 180, 0, 133, 153, 0, 23, 42, 42, 182, 0, 150, 3, 182, 0, 153, 153, 0, 11]
abbrev dktX52_bound_0 : List UInt8 := dkwX52_bound_0 ++ dktX52_bound_1
theorem dksX52_bound_0 : cX52_bound.data.toList.drop 0 = dktX52_bound_0 := by decide +kernel
theorem dksX52_bound_1 : cX52_bound.data.toList.drop 24 = dktX52_bound_1 := dk_seg dksX52_bound_0 24 rfl rfl
theorem dX52_bound_0 : decode cX52_bound 0 = .ok (.aload_n 0, 1) := dk_42 (dk_at dksX52_bound_0 0 rfl rfl)
theorem dX52_bound_1 : decode cX52_bound 1 = .ok (.iconst 0, 1) := dk_3 (dk_at dksX52_bound_0 1 rfl rfl)
theorem dX52_bound_2 : decode cX52_bound 2 = .ok (.putfield 72, 3) := dk_181 0 72 (dk_at dksX52_bound_0 2 rfl rfl)
theorem dX52_bound_5 : decode cX52_bound 5 = .ok (.aload_n 0, 1) := dk_42 (dk_at dksX52_bound_0 5 rfl rfl)
theorem dX52_bound_6 : decode cX52_bound 6 = .ok (.getfield 133, 3) := dk_180 0 133 (dk_at dksX52_bound_0 6 rfl rfl)
theorem dX52_bound_9 : decode cX52_bound 9 = .ok (.ifCond .eq 23, 3) := dk_153 0 23 (dk_at dksX52_bound_0 9 rfl rfl)
theorem dX52_bound_12 : decode cX52_bound 12 = .ok (.aload_n 0, 1) := dk_42 (dk_at dksX52_bound_0 12 rfl rfl)
theorem dX52_bound_13 : decode cX52_bound 13 = .ok (.aload_n 0, 1) := dk_42 (dk_at dksX52_bound_0 13 rfl rfl)
theorem dX52_bound_14 : decode cX52_bound 14 = .ok (.invokevirtual 150, 3) := dk_182 0 150 (dk_at dksX52_bound_0 14 rfl rfl)
theorem dX52_bound_17 : decode cX52_bound 17 = .ok (.iconst 0, 1) := dk_3 (dk_at dksX52_bound_0 17 rfl rfl)
theorem dX52_bound_18 : decode cX52_bound 18 = .ok (.invokevirtual 153, 3) := dk_182 0 153 (dk_at dksX52_bound_0 18 rfl rfl)
theorem dX52_bound_21 : decode cX52_bound 21 = .ok (.ifCond .eq 11, 3) := dk_153 0 11 (dk_at dksX52_bound_0 21 rfl rfl)
theorem dX52_bound_24 : decode cX52_bound 24 = .ok (.aload_n 0, 1) := dk_42 (dk_at dksX52_bound_1 0 rfl rfl)
theorem dX52_bound_25 : decode cX52_bound 25 = .ok (.iload_n 1, 1) := dk_27 (dk_at dksX52_bound_1 1 rfl rfl)
theorem dX52_bound_26 : decode cX52_bound 26 = .ok (.invokevirtual 197, 3) := dk_182 0 197 (dk_at dksX52_bound_1 2 rfl rfl)
theorem dX52_bound_29 : decode cX52_bound 29 = .ok (.goto 4, 3) := dk_167 0 4 (dk_at dksX52_bound_1 5 rfl rfl)
theorem dX52_bound_32 : decode cX52_bound 32 = .ok (.lconst 0, 1) := dk_9 (dk_at dksX52_bound_1 8 rfl rfl)
theorem dX52_bound_33 : decode cX52_bound 33 = .ok (.lreturn, 1) := dk_173 (dk_at dksX52_bound_1 9 rfl rfl)
abbrev cX52_goal : ByteArray := prog_63_method_31_code
def yX52_goal : MethodName := ⟨RX52, "goal", "(I)J"⟩
def dkwX52_goal_1 : List UInt8 := [180, 0, 63, 17, 2, 63, 47, 167, 0, 4, 9, 173]
abbrev dktX52_goal_1 : List UInt8 := dkwX52_goal_1 ++ []
def dkwX52_goal_0 : List UInt8 := [27, 154, 0, 15, 42, 180, 0, 59, 17, 2, 63, 47, 117, 167, 0, 20, 27, 4, 160, 0, 14, 42]
abbrev dktX52_goal_0 : List UInt8 := dkwX52_goal_0 ++ dktX52_goal_1
theorem dksX52_goal_0 : cX52_goal.data.toList.drop 0 = dktX52_goal_0 := by decide +kernel
theorem dksX52_goal_1 : cX52_goal.data.toList.drop 22 = dktX52_goal_1 := dk_seg dksX52_goal_0 22 rfl rfl
theorem dX52_goal_0 : decode cX52_goal 0 = .ok (.iload_n 1, 1) := dk_27 (dk_at dksX52_goal_0 0 rfl rfl)
theorem dX52_goal_1 : decode cX52_goal 1 = .ok (.ifCond .ne 15, 3) := dk_154 0 15 (dk_at dksX52_goal_0 1 rfl rfl)
theorem dX52_goal_4 : decode cX52_goal 4 = .ok (.aload_n 0, 1) := dk_42 (dk_at dksX52_goal_0 4 rfl rfl)
theorem dX52_goal_5 : decode cX52_goal 5 = .ok (.getfield 59, 3) := dk_180 0 59 (dk_at dksX52_goal_0 5 rfl rfl)
theorem dX52_goal_8 : decode cX52_goal 8 = .ok (.sipush 575, 3) := dk_17 2 63 (dk_at dksX52_goal_0 8 rfl rfl)
theorem dX52_goal_11 : decode cX52_goal 11 = .ok (.laload, 1) := dk_47 (dk_at dksX52_goal_0 11 rfl rfl)
theorem dX52_goal_12 : decode cX52_goal 12 = .ok (.lneg, 1) := dk_117 (dk_at dksX52_goal_0 12 rfl rfl)
theorem dX52_goal_13 : decode cX52_goal 13 = .ok (.goto 20, 3) := dk_167 0 20 (dk_at dksX52_goal_0 13 rfl rfl)
theorem dX52_goal_16 : decode cX52_goal 16 = .ok (.iload_n 1, 1) := dk_27 (dk_at dksX52_goal_0 16 rfl rfl)
theorem dX52_goal_17 : decode cX52_goal 17 = .ok (.iconst 1, 1) := dk_4 (dk_at dksX52_goal_0 17 rfl rfl)
theorem dX52_goal_18 : decode cX52_goal 18 = .ok (.if_icmp .ne 14, 3) := dk_160 0 14 (dk_at dksX52_goal_0 18 rfl rfl)
theorem dX52_goal_21 : decode cX52_goal 21 = .ok (.aload_n 0, 1) := dk_42 (dk_at dksX52_goal_0 21 rfl rfl)
theorem dX52_goal_22 : decode cX52_goal 22 = .ok (.getfield 63, 3) := dk_180 0 63 (dk_at dksX52_goal_1 0 rfl rfl)
theorem dX52_goal_25 : decode cX52_goal 25 = .ok (.sipush 575, 3) := dk_17 2 63 (dk_at dksX52_goal_1 3 rfl rfl)
theorem dX52_goal_28 : decode cX52_goal 28 = .ok (.laload, 1) := dk_47 (dk_at dksX52_goal_1 6 rfl rfl)
theorem dX52_goal_29 : decode cX52_goal 29 = .ok (.goto 4, 3) := dk_167 0 4 (dk_at dksX52_goal_1 7 rfl rfl)
theorem dX52_goal_32 : decode cX52_goal 32 = .ok (.lconst 0, 1) := dk_9 (dk_at dksX52_goal_1 10 rfl rfl)
theorem dX52_goal_33 : decode cX52_goal 33 = .ok (.lreturn, 1) := dk_173 (dk_at dksX52_goal_1 11 rfl rfl)
abbrev cX52_dual : ByteArray := prog_63_method_37_code
def yX52_dual : MethodName := ⟨RX52, "dual", "(II)J"⟩
def dkwX52_dual_5 : List UInt8 := [22, 7, 22, 11, 109, 167, 0, 17, 28, 4, 160, 0, 11, 22, 9, 22, 11, 109, 167, 0, 4, 9, 173]
abbrev dktX52_dual_5 : List UInt8 := dkwX52_dual_5 ++ []
def dkwX52_dual_4 : List UInt8 := [22, 5, 42, 4, 182, 0, 197, 105, 55, 9, 22, 7, 22, 9, 184, 0, 156, 55, 11, 28, 154, 0, 11]
abbrev dktX52_dual_4 : List UInt8 := dkwX52_dual_4 ++ dktX52_dual_5
def dkwX52_dual_3 : List UInt8 := [154, 0, 5, 9, 173, 33, 42, 4, 182, 0, 197, 105, 42, 3, 182, 0, 197, 22, 5, 105, 101, 55, 7]
abbrev dktX52_dual_3 : List UInt8 := dkwX52_dual_3 ++ dktX52_dual_4
def dkwX52_dual_2 : List UInt8 := [182, 0, 197, 55, 5, 42, 42, 182, 0, 150, 4, 27, 120, 2, 130, 126, 4, 27, 120, 182, 0, 153]
abbrev dktX52_dual_2 : List UInt8 := dkwX52_dual_2 ++ dktX52_dual_3
def dkwX52_dual_1 : List UInt8 := [42, 42, 182, 0, 150, 3, 182, 0, 153, 154, 0, 5, 9, 173, 42, 3, 182, 0, 197, 66, 42, 4]
abbrev dktX52_dual_1 : List UInt8 := dkwX52_dual_1 ++ dktX52_dual_2
def dkwX52_dual_0 : List UInt8 := [42, 3, 181, 0, 72, 42, 180, 0, 133, 153, 0, 27, 27, 155, 0, 23, 27, 42, 180, 0, 137, 162, 0, 15]
abbrev dktX52_dual_0 : List UInt8 := dkwX52_dual_0 ++ dktX52_dual_1
theorem dksX52_dual_0 : cX52_dual.data.toList.drop 0 = dktX52_dual_0 := by decide +kernel
theorem dksX52_dual_1 : cX52_dual.data.toList.drop 24 = dktX52_dual_1 := dk_seg dksX52_dual_0 24 rfl rfl
theorem dksX52_dual_2 : cX52_dual.data.toList.drop 46 = dktX52_dual_2 := dk_seg dksX52_dual_1 22 rfl rfl
theorem dksX52_dual_3 : cX52_dual.data.toList.drop 68 = dktX52_dual_3 := dk_seg dksX52_dual_2 22 rfl rfl
theorem dksX52_dual_4 : cX52_dual.data.toList.drop 91 = dktX52_dual_4 := dk_seg dksX52_dual_3 23 rfl rfl
theorem dksX52_dual_5 : cX52_dual.data.toList.drop 114 = dktX52_dual_5 := dk_seg dksX52_dual_4 23 rfl rfl
theorem dX52_dual_0 : decode cX52_dual 0 = .ok (.aload_n 0, 1) := dk_42 (dk_at dksX52_dual_0 0 rfl rfl)
theorem dX52_dual_1 : decode cX52_dual 1 = .ok (.iconst 0, 1) := dk_3 (dk_at dksX52_dual_0 1 rfl rfl)
theorem dX52_dual_2 : decode cX52_dual 2 = .ok (.putfield 72, 3) := dk_181 0 72 (dk_at dksX52_dual_0 2 rfl rfl)
theorem dX52_dual_5 : decode cX52_dual 5 = .ok (.aload_n 0, 1) := dk_42 (dk_at dksX52_dual_0 5 rfl rfl)
theorem dX52_dual_6 : decode cX52_dual 6 = .ok (.getfield 133, 3) := dk_180 0 133 (dk_at dksX52_dual_0 6 rfl rfl)
theorem dX52_dual_9 : decode cX52_dual 9 = .ok (.ifCond .eq 27, 3) := dk_153 0 27 (dk_at dksX52_dual_0 9 rfl rfl)
theorem dX52_dual_12 : decode cX52_dual 12 = .ok (.iload_n 1, 1) := dk_27 (dk_at dksX52_dual_0 12 rfl rfl)
theorem dX52_dual_13 : decode cX52_dual 13 = .ok (.ifCond .lt 23, 3) := dk_155 0 23 (dk_at dksX52_dual_0 13 rfl rfl)
theorem dX52_dual_16 : decode cX52_dual 16 = .ok (.iload_n 1, 1) := dk_27 (dk_at dksX52_dual_0 16 rfl rfl)
theorem dX52_dual_17 : decode cX52_dual 17 = .ok (.aload_n 0, 1) := dk_42 (dk_at dksX52_dual_0 17 rfl rfl)
theorem dX52_dual_18 : decode cX52_dual 18 = .ok (.getfield 137, 3) := dk_180 0 137 (dk_at dksX52_dual_0 18 rfl rfl)
theorem dX52_dual_21 : decode cX52_dual 21 = .ok (.if_icmp .ge 15, 3) := dk_162 0 15 (dk_at dksX52_dual_0 21 rfl rfl)
theorem dX52_dual_24 : decode cX52_dual 24 = .ok (.aload_n 0, 1) := dk_42 (dk_at dksX52_dual_1 0 rfl rfl)
theorem dX52_dual_25 : decode cX52_dual 25 = .ok (.aload_n 0, 1) := dk_42 (dk_at dksX52_dual_1 1 rfl rfl)
theorem dX52_dual_26 : decode cX52_dual 26 = .ok (.invokevirtual 150, 3) := dk_182 0 150 (dk_at dksX52_dual_1 2 rfl rfl)
theorem dX52_dual_29 : decode cX52_dual 29 = .ok (.iconst 0, 1) := dk_3 (dk_at dksX52_dual_1 5 rfl rfl)
theorem dX52_dual_30 : decode cX52_dual 30 = .ok (.invokevirtual 153, 3) := dk_182 0 153 (dk_at dksX52_dual_1 6 rfl rfl)
theorem dX52_dual_33 : decode cX52_dual 33 = .ok (.ifCond .ne 5, 3) := dk_154 0 5 (dk_at dksX52_dual_1 9 rfl rfl)
theorem dX52_dual_36 : decode cX52_dual 36 = .ok (.lconst 0, 1) := dk_9 (dk_at dksX52_dual_1 12 rfl rfl)
theorem dX52_dual_37 : decode cX52_dual 37 = .ok (.lreturn, 1) := dk_173 (dk_at dksX52_dual_1 13 rfl rfl)
theorem dX52_dual_38 : decode cX52_dual 38 = .ok (.aload_n 0, 1) := dk_42 (dk_at dksX52_dual_1 14 rfl rfl)
theorem dX52_dual_39 : decode cX52_dual 39 = .ok (.iconst 0, 1) := dk_3 (dk_at dksX52_dual_1 15 rfl rfl)
theorem dX52_dual_40 : decode cX52_dual 40 = .ok (.invokevirtual 197, 3) := dk_182 0 197 (dk_at dksX52_dual_1 16 rfl rfl)
theorem dX52_dual_43 : decode cX52_dual 43 = .ok (.lstore_n 3, 1) := dk_66 (dk_at dksX52_dual_1 19 rfl rfl)
theorem dX52_dual_44 : decode cX52_dual 44 = .ok (.aload_n 0, 1) := dk_42 (dk_at dksX52_dual_1 20 rfl rfl)
theorem dX52_dual_45 : decode cX52_dual 45 = .ok (.iconst 1, 1) := dk_4 (dk_at dksX52_dual_1 21 rfl rfl)
theorem dX52_dual_46 : decode cX52_dual 46 = .ok (.invokevirtual 197, 3) := dk_182 0 197 (dk_at dksX52_dual_2 0 rfl rfl)
theorem dX52_dual_49 : decode cX52_dual 49 = .ok (.lstore 5, 2) := dk_55 5 (dk_at dksX52_dual_2 3 rfl rfl)
theorem dX52_dual_51 : decode cX52_dual 51 = .ok (.aload_n 0, 1) := dk_42 (dk_at dksX52_dual_2 5 rfl rfl)
theorem dX52_dual_52 : decode cX52_dual 52 = .ok (.aload_n 0, 1) := dk_42 (dk_at dksX52_dual_2 6 rfl rfl)
theorem dX52_dual_53 : decode cX52_dual 53 = .ok (.invokevirtual 150, 3) := dk_182 0 150 (dk_at dksX52_dual_2 7 rfl rfl)
theorem dX52_dual_56 : decode cX52_dual 56 = .ok (.iconst 1, 1) := dk_4 (dk_at dksX52_dual_2 10 rfl rfl)
theorem dX52_dual_57 : decode cX52_dual 57 = .ok (.iload_n 1, 1) := dk_27 (dk_at dksX52_dual_2 11 rfl rfl)
theorem dX52_dual_58 : decode cX52_dual 58 = .ok (.ishl, 1) := dk_120 (dk_at dksX52_dual_2 12 rfl rfl)
theorem dX52_dual_59 : decode cX52_dual 59 = .ok (.iconst (-1), 1) := dk_2 (dk_at dksX52_dual_2 13 rfl rfl)
theorem dX52_dual_60 : decode cX52_dual 60 = .ok (.ixor, 1) := dk_130 (dk_at dksX52_dual_2 14 rfl rfl)
theorem dX52_dual_61 : decode cX52_dual 61 = .ok (.iand, 1) := dk_126 (dk_at dksX52_dual_2 15 rfl rfl)
theorem dX52_dual_62 : decode cX52_dual 62 = .ok (.iconst 1, 1) := dk_4 (dk_at dksX52_dual_2 16 rfl rfl)
theorem dX52_dual_63 : decode cX52_dual 63 = .ok (.iload_n 1, 1) := dk_27 (dk_at dksX52_dual_2 17 rfl rfl)
theorem dX52_dual_64 : decode cX52_dual 64 = .ok (.ishl, 1) := dk_120 (dk_at dksX52_dual_2 18 rfl rfl)
theorem dX52_dual_65 : decode cX52_dual 65 = .ok (.invokevirtual 153, 3) := dk_182 0 153 (dk_at dksX52_dual_2 19 rfl rfl)
theorem dX52_dual_68 : decode cX52_dual 68 = .ok (.ifCond .ne 5, 3) := dk_154 0 5 (dk_at dksX52_dual_3 0 rfl rfl)
theorem dX52_dual_71 : decode cX52_dual 71 = .ok (.lconst 0, 1) := dk_9 (dk_at dksX52_dual_3 3 rfl rfl)
theorem dX52_dual_72 : decode cX52_dual 72 = .ok (.lreturn, 1) := dk_173 (dk_at dksX52_dual_3 4 rfl rfl)
theorem dX52_dual_73 : decode cX52_dual 73 = .ok (.lload_n 3, 1) := dk_33 (dk_at dksX52_dual_3 5 rfl rfl)
theorem dX52_dual_74 : decode cX52_dual 74 = .ok (.aload_n 0, 1) := dk_42 (dk_at dksX52_dual_3 6 rfl rfl)
theorem dX52_dual_75 : decode cX52_dual 75 = .ok (.iconst 1, 1) := dk_4 (dk_at dksX52_dual_3 7 rfl rfl)
theorem dX52_dual_76 : decode cX52_dual 76 = .ok (.invokevirtual 197, 3) := dk_182 0 197 (dk_at dksX52_dual_3 8 rfl rfl)
theorem dX52_dual_79 : decode cX52_dual 79 = .ok (.lmul, 1) := dk_105 (dk_at dksX52_dual_3 11 rfl rfl)
theorem dX52_dual_80 : decode cX52_dual 80 = .ok (.aload_n 0, 1) := dk_42 (dk_at dksX52_dual_3 12 rfl rfl)
theorem dX52_dual_81 : decode cX52_dual 81 = .ok (.iconst 0, 1) := dk_3 (dk_at dksX52_dual_3 13 rfl rfl)
theorem dX52_dual_82 : decode cX52_dual 82 = .ok (.invokevirtual 197, 3) := dk_182 0 197 (dk_at dksX52_dual_3 14 rfl rfl)
theorem dX52_dual_85 : decode cX52_dual 85 = .ok (.lload 5, 2) := dk_22 5 (dk_at dksX52_dual_3 17 rfl rfl)
theorem dX52_dual_87 : decode cX52_dual 87 = .ok (.lmul, 1) := dk_105 (dk_at dksX52_dual_3 19 rfl rfl)
theorem dX52_dual_88 : decode cX52_dual 88 = .ok (.lsub, 1) := dk_101 (dk_at dksX52_dual_3 20 rfl rfl)
theorem dX52_dual_89 : decode cX52_dual 89 = .ok (.lstore 7, 2) := dk_55 7 (dk_at dksX52_dual_3 21 rfl rfl)
theorem dX52_dual_91 : decode cX52_dual 91 = .ok (.lload 5, 2) := dk_22 5 (dk_at dksX52_dual_4 0 rfl rfl)
theorem dX52_dual_93 : decode cX52_dual 93 = .ok (.aload_n 0, 1) := dk_42 (dk_at dksX52_dual_4 2 rfl rfl)
theorem dX52_dual_94 : decode cX52_dual 94 = .ok (.iconst 1, 1) := dk_4 (dk_at dksX52_dual_4 3 rfl rfl)
theorem dX52_dual_95 : decode cX52_dual 95 = .ok (.invokevirtual 197, 3) := dk_182 0 197 (dk_at dksX52_dual_4 4 rfl rfl)
theorem dX52_dual_98 : decode cX52_dual 98 = .ok (.lmul, 1) := dk_105 (dk_at dksX52_dual_4 7 rfl rfl)
theorem dX52_dual_99 : decode cX52_dual 99 = .ok (.lstore 9, 2) := dk_55 9 (dk_at dksX52_dual_4 8 rfl rfl)
theorem dX52_dual_101 : decode cX52_dual 101 = .ok (.lload 7, 2) := dk_22 7 (dk_at dksX52_dual_4 10 rfl rfl)
theorem dX52_dual_103 : decode cX52_dual 103 = .ok (.lload 9, 2) := dk_22 9 (dk_at dksX52_dual_4 12 rfl rfl)
theorem dX52_dual_105 : decode cX52_dual 105 = .ok (.invokestatic 156, 3) := dk_184 0 156 (dk_at dksX52_dual_4 14 rfl rfl)
theorem dX52_dual_108 : decode cX52_dual 108 = .ok (.lstore 11, 2) := dk_55 11 (dk_at dksX52_dual_4 17 rfl rfl)
theorem dX52_dual_110 : decode cX52_dual 110 = .ok (.iload_n 2, 1) := dk_28 (dk_at dksX52_dual_4 19 rfl rfl)
theorem dX52_dual_111 : decode cX52_dual 111 = .ok (.ifCond .ne 11, 3) := dk_154 0 11 (dk_at dksX52_dual_4 20 rfl rfl)
theorem dX52_dual_114 : decode cX52_dual 114 = .ok (.lload 7, 2) := dk_22 7 (dk_at dksX52_dual_5 0 rfl rfl)
theorem dX52_dual_116 : decode cX52_dual 116 = .ok (.lload 11, 2) := dk_22 11 (dk_at dksX52_dual_5 2 rfl rfl)
theorem dX52_dual_118 : decode cX52_dual 118 = .ok (.ldiv, 1) := dk_109 (dk_at dksX52_dual_5 4 rfl rfl)
theorem dX52_dual_119 : decode cX52_dual 119 = .ok (.goto 17, 3) := dk_167 0 17 (dk_at dksX52_dual_5 5 rfl rfl)
theorem dX52_dual_122 : decode cX52_dual 122 = .ok (.iload_n 2, 1) := dk_28 (dk_at dksX52_dual_5 8 rfl rfl)
theorem dX52_dual_123 : decode cX52_dual 123 = .ok (.iconst 1, 1) := dk_4 (dk_at dksX52_dual_5 9 rfl rfl)
theorem dX52_dual_124 : decode cX52_dual 124 = .ok (.if_icmp .ne 11, 3) := dk_160 0 11 (dk_at dksX52_dual_5 10 rfl rfl)
theorem dX52_dual_127 : decode cX52_dual 127 = .ok (.lload 9, 2) := dk_22 9 (dk_at dksX52_dual_5 13 rfl rfl)
theorem dX52_dual_129 : decode cX52_dual 129 = .ok (.lload 11, 2) := dk_22 11 (dk_at dksX52_dual_5 15 rfl rfl)
theorem dX52_dual_131 : decode cX52_dual 131 = .ok (.ldiv, 1) := dk_109 (dk_at dksX52_dual_5 17 rfl rfl)
theorem dX52_dual_132 : decode cX52_dual 132 = .ok (.goto 4, 3) := dk_167 0 4 (dk_at dksX52_dual_5 18 rfl rfl)
theorem dX52_dual_135 : decode cX52_dual 135 = .ok (.lconst 0, 1) := dk_9 (dk_at dksX52_dual_5 21 rfl rfl)
theorem dX52_dual_136 : decode cX52_dual 136 = .ok (.lreturn, 1) := dk_173 (dk_at dksX52_dual_5 22 rfl rfl)
abbrev cX52_used : ByteArray := prog_63_method_38_code
def yX52_used : MethodName := ⟨RX52, "used", "(II)J"⟩
def dkwX52_used_5 : List UInt8 := [182, 0, 197, 117, 167, 0, 8, 42, 28, 182, 0, 197, 173]
abbrev dktX52_used_5 : List UInt8 := dkwX52_used_5 ++ []
def dkwX52_used_4 : List UInt8 := [84, 132, 4, 1, 167, 255, 208, 42, 29, 182, 0, 191, 42, 182, 0, 185, 28, 154, 0, 12, 42, 3]
abbrev dktX52_used_4 : List UInt8 := dkwX52_used_4 ++ dktX52_used_5
def dkwX52_used_3 : List UInt8 := [153, 0, 23, 42, 180, 0, 59, 17, 1, 248, 21, 4, 96, 47, 9, 148, 154, 0, 7, 4, 167, 0, 4, 3]
abbrev dktX52_used_3 : List UInt8 := dkwX52_used_3 ++ dktX52_used_4
def dkwX52_used_2 : List UInt8 := [54, 4, 21, 4, 16, 64, 162, 0, 47, 42, 180, 0, 69, 21, 4, 42, 180, 0, 69, 21, 4, 51]
abbrev dktX52_used_2 : List UInt8 := dkwX52_used_2 ++ dktX52_used_3
def dkwX52_used_1 : List UInt8 := [180, 0, 41, 29, 51, 154, 0, 15, 42, 42, 182, 0, 150, 3, 182, 0, 153, 154, 0, 5, 9, 173, 3]
abbrev dktX52_used_1 : List UInt8 := dkwX52_used_1 ++ dktX52_used_2
def dkwX52_used_0 : List UInt8 := [42, 3, 181, 0, 72, 42, 27, 182, 0, 194, 62, 29, 153, 0, 31, 42, 180, 0, 133, 153, 0, 24, 42]
abbrev dktX52_used_0 : List UInt8 := dkwX52_used_0 ++ dktX52_used_1
theorem dksX52_used_0 : cX52_used.data.toList.drop 0 = dktX52_used_0 := by decide +kernel
theorem dksX52_used_1 : cX52_used.data.toList.drop 23 = dktX52_used_1 := dk_seg dksX52_used_0 23 rfl rfl
theorem dksX52_used_2 : cX52_used.data.toList.drop 46 = dktX52_used_2 := dk_seg dksX52_used_1 23 rfl rfl
theorem dksX52_used_3 : cX52_used.data.toList.drop 68 = dktX52_used_3 := dk_seg dksX52_used_2 22 rfl rfl
theorem dksX52_used_4 : cX52_used.data.toList.drop 92 = dktX52_used_4 := dk_seg dksX52_used_3 24 rfl rfl
theorem dksX52_used_5 : cX52_used.data.toList.drop 114 = dktX52_used_5 := dk_seg dksX52_used_4 22 rfl rfl
theorem dX52_used_0 : decode cX52_used 0 = .ok (.aload_n 0, 1) := dk_42 (dk_at dksX52_used_0 0 rfl rfl)
theorem dX52_used_1 : decode cX52_used 1 = .ok (.iconst 0, 1) := dk_3 (dk_at dksX52_used_0 1 rfl rfl)
theorem dX52_used_2 : decode cX52_used 2 = .ok (.putfield 72, 3) := dk_181 0 72 (dk_at dksX52_used_0 2 rfl rfl)
theorem dX52_used_5 : decode cX52_used 5 = .ok (.aload_n 0, 1) := dk_42 (dk_at dksX52_used_0 5 rfl rfl)
theorem dX52_used_6 : decode cX52_used 6 = .ok (.iload_n 1, 1) := dk_27 (dk_at dksX52_used_0 6 rfl rfl)
theorem dX52_used_7 : decode cX52_used 7 = .ok (.invokevirtual 194, 3) := dk_182 0 194 (dk_at dksX52_used_0 7 rfl rfl)
theorem dX52_used_10 : decode cX52_used 10 = .ok (.istore_n 3, 1) := dk_62 (dk_at dksX52_used_0 10 rfl rfl)
theorem dX52_used_11 : decode cX52_used 11 = .ok (.iload_n 3, 1) := dk_29 (dk_at dksX52_used_0 11 rfl rfl)
theorem dX52_used_12 : decode cX52_used 12 = .ok (.ifCond .eq 31, 3) := dk_153 0 31 (dk_at dksX52_used_0 12 rfl rfl)
theorem dX52_used_15 : decode cX52_used 15 = .ok (.aload_n 0, 1) := dk_42 (dk_at dksX52_used_0 15 rfl rfl)
theorem dX52_used_16 : decode cX52_used 16 = .ok (.getfield 133, 3) := dk_180 0 133 (dk_at dksX52_used_0 16 rfl rfl)
theorem dX52_used_19 : decode cX52_used 19 = .ok (.ifCond .eq 24, 3) := dk_153 0 24 (dk_at dksX52_used_0 19 rfl rfl)
theorem dX52_used_22 : decode cX52_used 22 = .ok (.aload_n 0, 1) := dk_42 (dk_at dksX52_used_0 22 rfl rfl)
theorem dX52_used_23 : decode cX52_used 23 = .ok (.getfield 41, 3) := dk_180 0 41 (dk_at dksX52_used_1 0 rfl rfl)
theorem dX52_used_26 : decode cX52_used 26 = .ok (.iload_n 3, 1) := dk_29 (dk_at dksX52_used_1 3 rfl rfl)
theorem dX52_used_27 : decode cX52_used 27 = .ok (.baload, 1) := dk_51 (dk_at dksX52_used_1 4 rfl rfl)
theorem dX52_used_28 : decode cX52_used 28 = .ok (.ifCond .ne 15, 3) := dk_154 0 15 (dk_at dksX52_used_1 5 rfl rfl)
theorem dX52_used_31 : decode cX52_used 31 = .ok (.aload_n 0, 1) := dk_42 (dk_at dksX52_used_1 8 rfl rfl)
theorem dX52_used_32 : decode cX52_used 32 = .ok (.aload_n 0, 1) := dk_42 (dk_at dksX52_used_1 9 rfl rfl)
theorem dX52_used_33 : decode cX52_used 33 = .ok (.invokevirtual 150, 3) := dk_182 0 150 (dk_at dksX52_used_1 10 rfl rfl)
theorem dX52_used_36 : decode cX52_used 36 = .ok (.iconst 0, 1) := dk_3 (dk_at dksX52_used_1 13 rfl rfl)
theorem dX52_used_37 : decode cX52_used 37 = .ok (.invokevirtual 153, 3) := dk_182 0 153 (dk_at dksX52_used_1 14 rfl rfl)
theorem dX52_used_40 : decode cX52_used 40 = .ok (.ifCond .ne 5, 3) := dk_154 0 5 (dk_at dksX52_used_1 17 rfl rfl)
theorem dX52_used_43 : decode cX52_used 43 = .ok (.lconst 0, 1) := dk_9 (dk_at dksX52_used_1 20 rfl rfl)
theorem dX52_used_44 : decode cX52_used 44 = .ok (.lreturn, 1) := dk_173 (dk_at dksX52_used_1 21 rfl rfl)
theorem dX52_used_45 : decode cX52_used 45 = .ok (.iconst 0, 1) := dk_3 (dk_at dksX52_used_1 22 rfl rfl)
theorem dX52_used_46 : decode cX52_used 46 = .ok (.istore 4, 2) := dk_54 4 (dk_at dksX52_used_2 0 rfl rfl)
theorem dX52_used_48 : decode cX52_used 48 = .ok (.iload 4, 2) := dk_21 4 (dk_at dksX52_used_2 2 rfl rfl)
theorem dX52_used_50 : decode cX52_used 50 = .ok (.bipush 64, 2) := dk_16 64 (dk_at dksX52_used_2 4 rfl rfl)
theorem dX52_used_52 : decode cX52_used 52 = .ok (.if_icmp .ge 47, 3) := dk_162 0 47 (dk_at dksX52_used_2 6 rfl rfl)
theorem dX52_used_55 : decode cX52_used 55 = .ok (.aload_n 0, 1) := dk_42 (dk_at dksX52_used_2 9 rfl rfl)
theorem dX52_used_56 : decode cX52_used 56 = .ok (.getfield 69, 3) := dk_180 0 69 (dk_at dksX52_used_2 10 rfl rfl)
theorem dX52_used_59 : decode cX52_used 59 = .ok (.iload 4, 2) := dk_21 4 (dk_at dksX52_used_2 13 rfl rfl)
theorem dX52_used_61 : decode cX52_used 61 = .ok (.aload_n 0, 1) := dk_42 (dk_at dksX52_used_2 15 rfl rfl)
theorem dX52_used_62 : decode cX52_used 62 = .ok (.getfield 69, 3) := dk_180 0 69 (dk_at dksX52_used_2 16 rfl rfl)
theorem dX52_used_65 : decode cX52_used 65 = .ok (.iload 4, 2) := dk_21 4 (dk_at dksX52_used_2 19 rfl rfl)
theorem dX52_used_67 : decode cX52_used 67 = .ok (.baload, 1) := dk_51 (dk_at dksX52_used_2 21 rfl rfl)
theorem dX52_used_68 : decode cX52_used 68 = .ok (.ifCond .eq 23, 3) := dk_153 0 23 (dk_at dksX52_used_3 0 rfl rfl)
theorem dX52_used_71 : decode cX52_used 71 = .ok (.aload_n 0, 1) := dk_42 (dk_at dksX52_used_3 3 rfl rfl)
theorem dX52_used_72 : decode cX52_used 72 = .ok (.getfield 59, 3) := dk_180 0 59 (dk_at dksX52_used_3 4 rfl rfl)
theorem dX52_used_75 : decode cX52_used 75 = .ok (.sipush 504, 3) := dk_17 1 248 (dk_at dksX52_used_3 7 rfl rfl)
theorem dX52_used_78 : decode cX52_used 78 = .ok (.iload 4, 2) := dk_21 4 (dk_at dksX52_used_3 10 rfl rfl)
theorem dX52_used_80 : decode cX52_used 80 = .ok (.iadd, 1) := dk_96 (dk_at dksX52_used_3 12 rfl rfl)
theorem dX52_used_81 : decode cX52_used 81 = .ok (.laload, 1) := dk_47 (dk_at dksX52_used_3 13 rfl rfl)
theorem dX52_used_82 : decode cX52_used 82 = .ok (.lconst 0, 1) := dk_9 (dk_at dksX52_used_3 14 rfl rfl)
theorem dX52_used_83 : decode cX52_used 83 = .ok (.lcmp, 1) := dk_148 (dk_at dksX52_used_3 15 rfl rfl)
theorem dX52_used_84 : decode cX52_used 84 = .ok (.ifCond .ne 7, 3) := dk_154 0 7 (dk_at dksX52_used_3 16 rfl rfl)
theorem dX52_used_87 : decode cX52_used 87 = .ok (.iconst 1, 1) := dk_4 (dk_at dksX52_used_3 19 rfl rfl)
theorem dX52_used_88 : decode cX52_used 88 = .ok (.goto 4, 3) := dk_167 0 4 (dk_at dksX52_used_3 20 rfl rfl)
theorem dX52_used_91 : decode cX52_used 91 = .ok (.iconst 0, 1) := dk_3 (dk_at dksX52_used_3 23 rfl rfl)
theorem dX52_used_92 : decode cX52_used 92 = .ok (.bastore, 1) := dk_84 (dk_at dksX52_used_4 0 rfl rfl)
theorem dX52_used_93 : decode cX52_used 93 = .ok (.iinc 4 1, 3) := dk_132 4 1 (dk_at dksX52_used_4 1 rfl rfl)
theorem dX52_used_96 : decode cX52_used 96 = .ok (.goto (-48), 3) := dk_167 255 208 (dk_at dksX52_used_4 4 rfl rfl)
theorem dX52_used_99 : decode cX52_used 99 = .ok (.aload_n 0, 1) := dk_42 (dk_at dksX52_used_4 7 rfl rfl)
theorem dX52_used_100 : decode cX52_used 100 = .ok (.iload_n 3, 1) := dk_29 (dk_at dksX52_used_4 8 rfl rfl)
theorem dX52_used_101 : decode cX52_used 101 = .ok (.invokevirtual 191, 3) := dk_182 0 191 (dk_at dksX52_used_4 9 rfl rfl)
theorem dX52_used_104 : decode cX52_used 104 = .ok (.aload_n 0, 1) := dk_42 (dk_at dksX52_used_4 12 rfl rfl)
theorem dX52_used_105 : decode cX52_used 105 = .ok (.invokevirtual 185, 3) := dk_182 0 185 (dk_at dksX52_used_4 13 rfl rfl)
theorem dX52_used_108 : decode cX52_used 108 = .ok (.iload_n 2, 1) := dk_28 (dk_at dksX52_used_4 16 rfl rfl)
theorem dX52_used_109 : decode cX52_used 109 = .ok (.ifCond .ne 12, 3) := dk_154 0 12 (dk_at dksX52_used_4 17 rfl rfl)
theorem dX52_used_112 : decode cX52_used 112 = .ok (.aload_n 0, 1) := dk_42 (dk_at dksX52_used_4 20 rfl rfl)
theorem dX52_used_113 : decode cX52_used 113 = .ok (.iconst 0, 1) := dk_3 (dk_at dksX52_used_4 21 rfl rfl)
theorem dX52_used_114 : decode cX52_used 114 = .ok (.invokevirtual 197, 3) := dk_182 0 197 (dk_at dksX52_used_5 0 rfl rfl)
theorem dX52_used_117 : decode cX52_used 117 = .ok (.lneg, 1) := dk_117 (dk_at dksX52_used_5 3 rfl rfl)
theorem dX52_used_118 : decode cX52_used 118 = .ok (.goto 8, 3) := dk_167 0 8 (dk_at dksX52_used_5 4 rfl rfl)
theorem dX52_used_121 : decode cX52_used 121 = .ok (.aload_n 0, 1) := dk_42 (dk_at dksX52_used_5 7 rfl rfl)
theorem dX52_used_122 : decode cX52_used 122 = .ok (.iload_n 2, 1) := dk_28 (dk_at dksX52_used_5 8 rfl rfl)
theorem dX52_used_123 : decode cX52_used 123 = .ok (.invokevirtual 197, 3) := dk_182 0 197 (dk_at dksX52_used_5 9 rfl rfl)
theorem dX52_used_126 : decode cX52_used 126 = .ok (.lreturn, 1) := dk_173 (dk_at dksX52_used_5 12 rfl rfl)
abbrev cX52_share : ByteArray := prog_63_method_39_code
def yX52_share : MethodName := ⟨RX52, "share", "(II)J"⟩
def dkwX52_share_3 : List UInt8 := [9, 173]
abbrev dktX52_share_3 : List UInt8 := dkwX52_share_3 ++ []
def dkwX52_share_2 : List UInt8 := [22, 4, 22, 6, 109, 167, 0, 20, 28, 4, 160, 0, 14, 42, 180, 0, 140, 133, 22, 6, 109, 167, 0, 4]
abbrev dktX52_share_2 : List UInt8 := dkwX52_share_2 ++ dktX52_share_3
def dkwX52_share_1 : List UInt8 := [42, 29, 182, 0, 201, 133, 55, 4, 22, 4, 42, 180, 0, 140, 133, 184, 0, 156, 55, 6, 28, 154, 0, 11]
abbrev dktX52_share_1 : List UInt8 := dkwX52_share_1 ++ dktX52_share_2
def dkwX52_share_0 : List UInt8 := [42, 3, 181, 0, 72, 42, 27, 182, 0, 194, 62, 29, 153, 0, 10, 42, 180, 0, 140, 154, 0, 5, 9, 173]
abbrev dktX52_share_0 : List UInt8 := dkwX52_share_0 ++ dktX52_share_1
theorem dksX52_share_0 : cX52_share.data.toList.drop 0 = dktX52_share_0 := by decide +kernel
theorem dksX52_share_1 : cX52_share.data.toList.drop 24 = dktX52_share_1 := dk_seg dksX52_share_0 24 rfl rfl
theorem dksX52_share_2 : cX52_share.data.toList.drop 48 = dktX52_share_2 := dk_seg dksX52_share_1 24 rfl rfl
theorem dksX52_share_3 : cX52_share.data.toList.drop 72 = dktX52_share_3 := dk_seg dksX52_share_2 24 rfl rfl
theorem dX52_share_0 : decode cX52_share 0 = .ok (.aload_n 0, 1) := dk_42 (dk_at dksX52_share_0 0 rfl rfl)
theorem dX52_share_1 : decode cX52_share 1 = .ok (.iconst 0, 1) := dk_3 (dk_at dksX52_share_0 1 rfl rfl)
theorem dX52_share_2 : decode cX52_share 2 = .ok (.putfield 72, 3) := dk_181 0 72 (dk_at dksX52_share_0 2 rfl rfl)
theorem dX52_share_5 : decode cX52_share 5 = .ok (.aload_n 0, 1) := dk_42 (dk_at dksX52_share_0 5 rfl rfl)
theorem dX52_share_6 : decode cX52_share 6 = .ok (.iload_n 1, 1) := dk_27 (dk_at dksX52_share_0 6 rfl rfl)
theorem dX52_share_7 : decode cX52_share 7 = .ok (.invokevirtual 194, 3) := dk_182 0 194 (dk_at dksX52_share_0 7 rfl rfl)
theorem dX52_share_10 : decode cX52_share 10 = .ok (.istore_n 3, 1) := dk_62 (dk_at dksX52_share_0 10 rfl rfl)
theorem dX52_share_11 : decode cX52_share 11 = .ok (.iload_n 3, 1) := dk_29 (dk_at dksX52_share_0 11 rfl rfl)
theorem dX52_share_12 : decode cX52_share 12 = .ok (.ifCond .eq 10, 3) := dk_153 0 10 (dk_at dksX52_share_0 12 rfl rfl)
theorem dX52_share_15 : decode cX52_share 15 = .ok (.aload_n 0, 1) := dk_42 (dk_at dksX52_share_0 15 rfl rfl)
theorem dX52_share_16 : decode cX52_share 16 = .ok (.getfield 140, 3) := dk_180 0 140 (dk_at dksX52_share_0 16 rfl rfl)
theorem dX52_share_19 : decode cX52_share 19 = .ok (.ifCond .ne 5, 3) := dk_154 0 5 (dk_at dksX52_share_0 19 rfl rfl)
theorem dX52_share_22 : decode cX52_share 22 = .ok (.lconst 0, 1) := dk_9 (dk_at dksX52_share_0 22 rfl rfl)
theorem dX52_share_23 : decode cX52_share 23 = .ok (.lreturn, 1) := dk_173 (dk_at dksX52_share_0 23 rfl rfl)
theorem dX52_share_24 : decode cX52_share 24 = .ok (.aload_n 0, 1) := dk_42 (dk_at dksX52_share_1 0 rfl rfl)
theorem dX52_share_25 : decode cX52_share 25 = .ok (.iload_n 3, 1) := dk_29 (dk_at dksX52_share_1 1 rfl rfl)
theorem dX52_share_26 : decode cX52_share 26 = .ok (.invokevirtual 201, 3) := dk_182 0 201 (dk_at dksX52_share_1 2 rfl rfl)
theorem dX52_share_29 : decode cX52_share 29 = .ok (.i2l, 1) := dk_133 (dk_at dksX52_share_1 5 rfl rfl)
theorem dX52_share_30 : decode cX52_share 30 = .ok (.lstore 4, 2) := dk_55 4 (dk_at dksX52_share_1 6 rfl rfl)
theorem dX52_share_32 : decode cX52_share 32 = .ok (.lload 4, 2) := dk_22 4 (dk_at dksX52_share_1 8 rfl rfl)
theorem dX52_share_34 : decode cX52_share 34 = .ok (.aload_n 0, 1) := dk_42 (dk_at dksX52_share_1 10 rfl rfl)
theorem dX52_share_35 : decode cX52_share 35 = .ok (.getfield 140, 3) := dk_180 0 140 (dk_at dksX52_share_1 11 rfl rfl)
theorem dX52_share_38 : decode cX52_share 38 = .ok (.i2l, 1) := dk_133 (dk_at dksX52_share_1 14 rfl rfl)
theorem dX52_share_39 : decode cX52_share 39 = .ok (.invokestatic 156, 3) := dk_184 0 156 (dk_at dksX52_share_1 15 rfl rfl)
theorem dX52_share_42 : decode cX52_share 42 = .ok (.lstore 6, 2) := dk_55 6 (dk_at dksX52_share_1 18 rfl rfl)
theorem dX52_share_44 : decode cX52_share 44 = .ok (.iload_n 2, 1) := dk_28 (dk_at dksX52_share_1 20 rfl rfl)
theorem dX52_share_45 : decode cX52_share 45 = .ok (.ifCond .ne 11, 3) := dk_154 0 11 (dk_at dksX52_share_1 21 rfl rfl)
theorem dX52_share_48 : decode cX52_share 48 = .ok (.lload 4, 2) := dk_22 4 (dk_at dksX52_share_2 0 rfl rfl)
theorem dX52_share_50 : decode cX52_share 50 = .ok (.lload 6, 2) := dk_22 6 (dk_at dksX52_share_2 2 rfl rfl)
theorem dX52_share_52 : decode cX52_share 52 = .ok (.ldiv, 1) := dk_109 (dk_at dksX52_share_2 4 rfl rfl)
theorem dX52_share_53 : decode cX52_share 53 = .ok (.goto 20, 3) := dk_167 0 20 (dk_at dksX52_share_2 5 rfl rfl)
theorem dX52_share_56 : decode cX52_share 56 = .ok (.iload_n 2, 1) := dk_28 (dk_at dksX52_share_2 8 rfl rfl)
theorem dX52_share_57 : decode cX52_share 57 = .ok (.iconst 1, 1) := dk_4 (dk_at dksX52_share_2 9 rfl rfl)
theorem dX52_share_58 : decode cX52_share 58 = .ok (.if_icmp .ne 14, 3) := dk_160 0 14 (dk_at dksX52_share_2 10 rfl rfl)
theorem dX52_share_61 : decode cX52_share 61 = .ok (.aload_n 0, 1) := dk_42 (dk_at dksX52_share_2 13 rfl rfl)
theorem dX52_share_62 : decode cX52_share 62 = .ok (.getfield 140, 3) := dk_180 0 140 (dk_at dksX52_share_2 14 rfl rfl)
theorem dX52_share_65 : decode cX52_share 65 = .ok (.i2l, 1) := dk_133 (dk_at dksX52_share_2 17 rfl rfl)
theorem dX52_share_66 : decode cX52_share 66 = .ok (.lload 6, 2) := dk_22 6 (dk_at dksX52_share_2 18 rfl rfl)
theorem dX52_share_68 : decode cX52_share 68 = .ok (.ldiv, 1) := dk_109 (dk_at dksX52_share_2 20 rfl rfl)
theorem dX52_share_69 : decode cX52_share 69 = .ok (.goto 4, 3) := dk_167 0 4 (dk_at dksX52_share_2 21 rfl rfl)
theorem dX52_share_72 : decode cX52_share 72 = .ok (.lconst 0, 1) := dk_9 (dk_at dksX52_share_3 0 rfl rfl)
theorem dX52_share_73 : decode cX52_share 73 = .ok (.lreturn, 1) := dk_173 (dk_at dksX52_share_3 1 rfl rfl)
abbrev cX52_dropped : ByteArray := prog_63_method_41_code
def yX52_dropped : MethodName := ⟨RX52, "dropped", "(I)Z"⟩
def dkwX52_dropped_2 : List UInt8 := [132, 2, 1, 132, 3, 1, 167, 255, 214, 3, 172]
abbrev dktX52_dropped_2 : List UInt8 := dkwX52_dropped_2 ++ []
def dkwX52_dropped_1 : List UInt8 := [153, 0, 26, 28, 27, 160, 0, 18, 42, 180, 0, 32, 29, 51, 154, 0, 7, 4, 167, 0, 4, 3, 172]
abbrev dktX52_dropped_1 : List UInt8 := dkwX52_dropped_1 ++ dktX52_dropped_2
def dkwX52_dropped_0 : List UInt8 := [42, 3, 181, 0, 72, 3, 61, 3, 62, 29, 17, 1, 128, 162, 0, 41, 42, 180, 0, 28, 29, 51]
abbrev dktX52_dropped_0 : List UInt8 := dkwX52_dropped_0 ++ dktX52_dropped_1
theorem dksX52_dropped_0 : cX52_dropped.data.toList.drop 0 = dktX52_dropped_0 := by decide +kernel
theorem dksX52_dropped_1 : cX52_dropped.data.toList.drop 22 = dktX52_dropped_1 := dk_seg dksX52_dropped_0 22 rfl rfl
theorem dksX52_dropped_2 : cX52_dropped.data.toList.drop 45 = dktX52_dropped_2 := dk_seg dksX52_dropped_1 23 rfl rfl
theorem dX52_dropped_0 : decode cX52_dropped 0 = .ok (.aload_n 0, 1) := dk_42 (dk_at dksX52_dropped_0 0 rfl rfl)
theorem dX52_dropped_1 : decode cX52_dropped 1 = .ok (.iconst 0, 1) := dk_3 (dk_at dksX52_dropped_0 1 rfl rfl)
theorem dX52_dropped_2 : decode cX52_dropped 2 = .ok (.putfield 72, 3) := dk_181 0 72 (dk_at dksX52_dropped_0 2 rfl rfl)
theorem dX52_dropped_5 : decode cX52_dropped 5 = .ok (.iconst 0, 1) := dk_3 (dk_at dksX52_dropped_0 5 rfl rfl)
theorem dX52_dropped_6 : decode cX52_dropped 6 = .ok (.istore_n 2, 1) := dk_61 (dk_at dksX52_dropped_0 6 rfl rfl)
theorem dX52_dropped_7 : decode cX52_dropped 7 = .ok (.iconst 0, 1) := dk_3 (dk_at dksX52_dropped_0 7 rfl rfl)
theorem dX52_dropped_8 : decode cX52_dropped 8 = .ok (.istore_n 3, 1) := dk_62 (dk_at dksX52_dropped_0 8 rfl rfl)
theorem dX52_dropped_9 : decode cX52_dropped 9 = .ok (.iload_n 3, 1) := dk_29 (dk_at dksX52_dropped_0 9 rfl rfl)
theorem dX52_dropped_10 : decode cX52_dropped 10 = .ok (.sipush 384, 3) := dk_17 1 128 (dk_at dksX52_dropped_0 10 rfl rfl)
theorem dX52_dropped_13 : decode cX52_dropped 13 = .ok (.if_icmp .ge 41, 3) := dk_162 0 41 (dk_at dksX52_dropped_0 13 rfl rfl)
theorem dX52_dropped_16 : decode cX52_dropped 16 = .ok (.aload_n 0, 1) := dk_42 (dk_at dksX52_dropped_0 16 rfl rfl)
theorem dX52_dropped_17 : decode cX52_dropped 17 = .ok (.getfield 28, 3) := dk_180 0 28 (dk_at dksX52_dropped_0 17 rfl rfl)
theorem dX52_dropped_20 : decode cX52_dropped 20 = .ok (.iload_n 3, 1) := dk_29 (dk_at dksX52_dropped_0 20 rfl rfl)
theorem dX52_dropped_21 : decode cX52_dropped 21 = .ok (.baload, 1) := dk_51 (dk_at dksX52_dropped_0 21 rfl rfl)
theorem dX52_dropped_22 : decode cX52_dropped 22 = .ok (.ifCond .eq 26, 3) := dk_153 0 26 (dk_at dksX52_dropped_1 0 rfl rfl)
theorem dX52_dropped_25 : decode cX52_dropped 25 = .ok (.iload_n 2, 1) := dk_28 (dk_at dksX52_dropped_1 3 rfl rfl)
theorem dX52_dropped_26 : decode cX52_dropped 26 = .ok (.iload_n 1, 1) := dk_27 (dk_at dksX52_dropped_1 4 rfl rfl)
theorem dX52_dropped_27 : decode cX52_dropped 27 = .ok (.if_icmp .ne 18, 3) := dk_160 0 18 (dk_at dksX52_dropped_1 5 rfl rfl)
theorem dX52_dropped_30 : decode cX52_dropped 30 = .ok (.aload_n 0, 1) := dk_42 (dk_at dksX52_dropped_1 8 rfl rfl)
theorem dX52_dropped_31 : decode cX52_dropped 31 = .ok (.getfield 32, 3) := dk_180 0 32 (dk_at dksX52_dropped_1 9 rfl rfl)
theorem dX52_dropped_34 : decode cX52_dropped 34 = .ok (.iload_n 3, 1) := dk_29 (dk_at dksX52_dropped_1 12 rfl rfl)
theorem dX52_dropped_35 : decode cX52_dropped 35 = .ok (.baload, 1) := dk_51 (dk_at dksX52_dropped_1 13 rfl rfl)
theorem dX52_dropped_36 : decode cX52_dropped 36 = .ok (.ifCond .ne 7, 3) := dk_154 0 7 (dk_at dksX52_dropped_1 14 rfl rfl)
theorem dX52_dropped_39 : decode cX52_dropped 39 = .ok (.iconst 1, 1) := dk_4 (dk_at dksX52_dropped_1 17 rfl rfl)
theorem dX52_dropped_40 : decode cX52_dropped 40 = .ok (.goto 4, 3) := dk_167 0 4 (dk_at dksX52_dropped_1 18 rfl rfl)
theorem dX52_dropped_43 : decode cX52_dropped 43 = .ok (.iconst 0, 1) := dk_3 (dk_at dksX52_dropped_1 21 rfl rfl)
theorem dX52_dropped_44 : decode cX52_dropped 44 = .ok (.ireturn, 1) := dk_172 (dk_at dksX52_dropped_1 22 rfl rfl)
theorem dX52_dropped_45 : decode cX52_dropped 45 = .ok (.iinc 2 1, 3) := dk_132 2 1 (dk_at dksX52_dropped_2 0 rfl rfl)
theorem dX52_dropped_48 : decode cX52_dropped 48 = .ok (.iinc 3 1, 3) := dk_132 3 1 (dk_at dksX52_dropped_2 3 rfl rfl)
theorem dX52_dropped_51 : decode cX52_dropped 51 = .ok (.goto (-42), 3) := dk_167 255 214 (dk_at dksX52_dropped_2 6 rfl rfl)
theorem dX52_dropped_54 : decode cX52_dropped 54 = .ok (.iconst 0, 1) := dk_3 (dk_at dksX52_dropped_2 9 rfl rfl)
theorem dX52_dropped_55 : decode cX52_dropped 55 = .ok (.ireturn, 1) := dk_172 (dk_at dksX52_dropped_2 10 rfl rfl)
abbrev cX52_cuts : ByteArray := prog_63_method_43_code
def yX52_cuts : MethodName := ⟨RX52, "cuts", "()I"⟩
def dkwX52_cuts_1 : List UInt8 := [4, 167, 0, 4, 3, 96, 60, 132, 2, 1, 167, 255, 231, 27, 172]
abbrev dktX52_cuts_1 : List UInt8 := dkwX52_cuts_1 ++ []
def dkwX52_cuts_0 : List UInt8 := [42, 3, 181, 0, 72, 3, 60, 4, 61, 28, 16, 64, 162, 0, 25, 27, 42, 28, 182, 0, 204, 153, 0, 7]
abbrev dktX52_cuts_0 : List UInt8 := dkwX52_cuts_0 ++ dktX52_cuts_1
theorem dksX52_cuts_0 : cX52_cuts.data.toList.drop 0 = dktX52_cuts_0 := by decide +kernel
theorem dksX52_cuts_1 : cX52_cuts.data.toList.drop 24 = dktX52_cuts_1 := dk_seg dksX52_cuts_0 24 rfl rfl
theorem dX52_cuts_0 : decode cX52_cuts 0 = .ok (.aload_n 0, 1) := dk_42 (dk_at dksX52_cuts_0 0 rfl rfl)
theorem dX52_cuts_1 : decode cX52_cuts 1 = .ok (.iconst 0, 1) := dk_3 (dk_at dksX52_cuts_0 1 rfl rfl)
theorem dX52_cuts_2 : decode cX52_cuts 2 = .ok (.putfield 72, 3) := dk_181 0 72 (dk_at dksX52_cuts_0 2 rfl rfl)
theorem dX52_cuts_5 : decode cX52_cuts 5 = .ok (.iconst 0, 1) := dk_3 (dk_at dksX52_cuts_0 5 rfl rfl)
theorem dX52_cuts_6 : decode cX52_cuts 6 = .ok (.istore_n 1, 1) := dk_60 (dk_at dksX52_cuts_0 6 rfl rfl)
theorem dX52_cuts_7 : decode cX52_cuts 7 = .ok (.iconst 1, 1) := dk_4 (dk_at dksX52_cuts_0 7 rfl rfl)
theorem dX52_cuts_8 : decode cX52_cuts 8 = .ok (.istore_n 2, 1) := dk_61 (dk_at dksX52_cuts_0 8 rfl rfl)
theorem dX52_cuts_9 : decode cX52_cuts 9 = .ok (.iload_n 2, 1) := dk_28 (dk_at dksX52_cuts_0 9 rfl rfl)
theorem dX52_cuts_10 : decode cX52_cuts 10 = .ok (.bipush 64, 2) := dk_16 64 (dk_at dksX52_cuts_0 10 rfl rfl)
theorem dX52_cuts_12 : decode cX52_cuts 12 = .ok (.if_icmp .ge 25, 3) := dk_162 0 25 (dk_at dksX52_cuts_0 12 rfl rfl)
theorem dX52_cuts_15 : decode cX52_cuts 15 = .ok (.iload_n 1, 1) := dk_27 (dk_at dksX52_cuts_0 15 rfl rfl)
theorem dX52_cuts_16 : decode cX52_cuts 16 = .ok (.aload_n 0, 1) := dk_42 (dk_at dksX52_cuts_0 16 rfl rfl)
theorem dX52_cuts_17 : decode cX52_cuts 17 = .ok (.iload_n 2, 1) := dk_28 (dk_at dksX52_cuts_0 17 rfl rfl)
theorem dX52_cuts_18 : decode cX52_cuts 18 = .ok (.invokevirtual 204, 3) := dk_182 0 204 (dk_at dksX52_cuts_0 18 rfl rfl)
theorem dX52_cuts_21 : decode cX52_cuts 21 = .ok (.ifCond .eq 7, 3) := dk_153 0 7 (dk_at dksX52_cuts_0 21 rfl rfl)
theorem dX52_cuts_24 : decode cX52_cuts 24 = .ok (.iconst 1, 1) := dk_4 (dk_at dksX52_cuts_1 0 rfl rfl)
theorem dX52_cuts_25 : decode cX52_cuts 25 = .ok (.goto 4, 3) := dk_167 0 4 (dk_at dksX52_cuts_1 1 rfl rfl)
theorem dX52_cuts_28 : decode cX52_cuts 28 = .ok (.iconst 0, 1) := dk_3 (dk_at dksX52_cuts_1 4 rfl rfl)
theorem dX52_cuts_29 : decode cX52_cuts 29 = .ok (.iadd, 1) := dk_96 (dk_at dksX52_cuts_1 5 rfl rfl)
theorem dX52_cuts_30 : decode cX52_cuts 30 = .ok (.istore_n 1, 1) := dk_60 (dk_at dksX52_cuts_1 6 rfl rfl)
theorem dX52_cuts_31 : decode cX52_cuts 31 = .ok (.iinc 2 1, 3) := dk_132 2 1 (dk_at dksX52_cuts_1 7 rfl rfl)
theorem dX52_cuts_34 : decode cX52_cuts 34 = .ok (.goto (-25), 3) := dk_167 255 231 (dk_at dksX52_cuts_1 10 rfl rfl)
theorem dX52_cuts_37 : decode cX52_cuts 37 = .ok (.iload_n 1, 1) := dk_27 (dk_at dksX52_cuts_1 13 rfl rfl)
theorem dX52_cuts_38 : decode cX52_cuts 38 = .ok (.ireturn, 1) := dk_172 (dk_at dksX52_cuts_1 14 rfl rfl)
abbrev cX52_isCut : ByteArray := prog_63_method_42_code
def yX52_isCut : MethodName := ⟨RX52, "isCut", "(I)Z"⟩
def dkwX52_isCut_1 : List UInt8 := [42, 27, 182, 0, 201, 42, 180, 0, 140, 164, 0, 7, 4, 167, 0, 4, 3, 172]
abbrev dktX52_isCut_1 : List UInt8 := dkwX52_isCut_1 ++ []
def dkwX52_isCut_0 : List UInt8 := [42, 180, 0, 133, 153, 0, 36, 42, 180, 0, 140, 158, 0, 29, 27, 4, 42, 180, 0, 137, 120, 162, 0, 19]
abbrev dktX52_isCut_0 : List UInt8 := dkwX52_isCut_0 ++ dktX52_isCut_1
theorem dksX52_isCut_0 : cX52_isCut.data.toList.drop 0 = dktX52_isCut_0 := by decide +kernel
theorem dksX52_isCut_1 : cX52_isCut.data.toList.drop 24 = dktX52_isCut_1 := dk_seg dksX52_isCut_0 24 rfl rfl
theorem dX52_isCut_0 : decode cX52_isCut 0 = .ok (.aload_n 0, 1) := dk_42 (dk_at dksX52_isCut_0 0 rfl rfl)
theorem dX52_isCut_1 : decode cX52_isCut 1 = .ok (.getfield 133, 3) := dk_180 0 133 (dk_at dksX52_isCut_0 1 rfl rfl)
theorem dX52_isCut_4 : decode cX52_isCut 4 = .ok (.ifCond .eq 36, 3) := dk_153 0 36 (dk_at dksX52_isCut_0 4 rfl rfl)
theorem dX52_isCut_7 : decode cX52_isCut 7 = .ok (.aload_n 0, 1) := dk_42 (dk_at dksX52_isCut_0 7 rfl rfl)
theorem dX52_isCut_8 : decode cX52_isCut 8 = .ok (.getfield 140, 3) := dk_180 0 140 (dk_at dksX52_isCut_0 8 rfl rfl)
theorem dX52_isCut_11 : decode cX52_isCut 11 = .ok (.ifCond .le 29, 3) := dk_158 0 29 (dk_at dksX52_isCut_0 11 rfl rfl)
theorem dX52_isCut_14 : decode cX52_isCut 14 = .ok (.iload_n 1, 1) := dk_27 (dk_at dksX52_isCut_0 14 rfl rfl)
theorem dX52_isCut_15 : decode cX52_isCut 15 = .ok (.iconst 1, 1) := dk_4 (dk_at dksX52_isCut_0 15 rfl rfl)
theorem dX52_isCut_16 : decode cX52_isCut 16 = .ok (.aload_n 0, 1) := dk_42 (dk_at dksX52_isCut_0 16 rfl rfl)
theorem dX52_isCut_17 : decode cX52_isCut 17 = .ok (.getfield 137, 3) := dk_180 0 137 (dk_at dksX52_isCut_0 17 rfl rfl)
theorem dX52_isCut_20 : decode cX52_isCut 20 = .ok (.ishl, 1) := dk_120 (dk_at dksX52_isCut_0 20 rfl rfl)
theorem dX52_isCut_21 : decode cX52_isCut 21 = .ok (.if_icmp .ge 19, 3) := dk_162 0 19 (dk_at dksX52_isCut_0 21 rfl rfl)
theorem dX52_isCut_24 : decode cX52_isCut 24 = .ok (.aload_n 0, 1) := dk_42 (dk_at dksX52_isCut_1 0 rfl rfl)
theorem dX52_isCut_25 : decode cX52_isCut 25 = .ok (.iload_n 1, 1) := dk_27 (dk_at dksX52_isCut_1 1 rfl rfl)
theorem dX52_isCut_26 : decode cX52_isCut 26 = .ok (.invokevirtual 201, 3) := dk_182 0 201 (dk_at dksX52_isCut_1 2 rfl rfl)
theorem dX52_isCut_29 : decode cX52_isCut 29 = .ok (.aload_n 0, 1) := dk_42 (dk_at dksX52_isCut_1 5 rfl rfl)
theorem dX52_isCut_30 : decode cX52_isCut 30 = .ok (.getfield 140, 3) := dk_180 0 140 (dk_at dksX52_isCut_1 6 rfl rfl)
theorem dX52_isCut_33 : decode cX52_isCut 33 = .ok (.if_icmp .le 7, 3) := dk_164 0 7 (dk_at dksX52_isCut_1 9 rfl rfl)
theorem dX52_isCut_36 : decode cX52_isCut 36 = .ok (.iconst 1, 1) := dk_4 (dk_at dksX52_isCut_1 12 rfl rfl)
theorem dX52_isCut_37 : decode cX52_isCut 37 = .ok (.goto 4, 3) := dk_167 0 4 (dk_at dksX52_isCut_1 13 rfl rfl)
theorem dX52_isCut_40 : decode cX52_isCut 40 = .ok (.iconst 0, 1) := dk_3 (dk_at dksX52_isCut_1 16 rfl rfl)
theorem dX52_isCut_41 : decode cX52_isCut 41 = .ok (.ireturn, 1) := dk_172 (dk_at dksX52_isCut_1 17 rfl rfl)
abbrev cX52_cut : ByteArray := prog_63_method_44_code
def yX52_cut : MethodName := ⟨RX52, "cut", "(II)I"⟩
def dkwX52_cut_2 : List UInt8 := [2, 172]
abbrev dktX52_cut_2 : List UInt8 := dkwX52_cut_2 ++ []
def dkwX52_cut_1 : List UInt8 := [153, 0, 18, 29, 27, 160, 0, 10, 21, 4, 28, 184, 0, 207, 172, 132, 3, 1, 132, 4, 1, 167, 255, 222]
abbrev dktX52_cut_1 : List UInt8 := dkwX52_cut_1 ++ dktX52_cut_2
def dkwX52_cut_0 : List UInt8 := [42, 3, 181, 0, 72, 3, 62, 4, 54, 4, 21, 4, 16, 64, 162, 0, 33, 42, 21, 4, 182, 0, 204]
abbrev dktX52_cut_0 : List UInt8 := dkwX52_cut_0 ++ dktX52_cut_1
theorem dksX52_cut_0 : cX52_cut.data.toList.drop 0 = dktX52_cut_0 := by decide +kernel
theorem dksX52_cut_1 : cX52_cut.data.toList.drop 23 = dktX52_cut_1 := dk_seg dksX52_cut_0 23 rfl rfl
theorem dksX52_cut_2 : cX52_cut.data.toList.drop 47 = dktX52_cut_2 := dk_seg dksX52_cut_1 24 rfl rfl
theorem dX52_cut_0 : decode cX52_cut 0 = .ok (.aload_n 0, 1) := dk_42 (dk_at dksX52_cut_0 0 rfl rfl)
theorem dX52_cut_1 : decode cX52_cut 1 = .ok (.iconst 0, 1) := dk_3 (dk_at dksX52_cut_0 1 rfl rfl)
theorem dX52_cut_2 : decode cX52_cut 2 = .ok (.putfield 72, 3) := dk_181 0 72 (dk_at dksX52_cut_0 2 rfl rfl)
theorem dX52_cut_5 : decode cX52_cut 5 = .ok (.iconst 0, 1) := dk_3 (dk_at dksX52_cut_0 5 rfl rfl)
theorem dX52_cut_6 : decode cX52_cut 6 = .ok (.istore_n 3, 1) := dk_62 (dk_at dksX52_cut_0 6 rfl rfl)
theorem dX52_cut_7 : decode cX52_cut 7 = .ok (.iconst 1, 1) := dk_4 (dk_at dksX52_cut_0 7 rfl rfl)
theorem dX52_cut_8 : decode cX52_cut 8 = .ok (.istore 4, 2) := dk_54 4 (dk_at dksX52_cut_0 8 rfl rfl)
theorem dX52_cut_10 : decode cX52_cut 10 = .ok (.iload 4, 2) := dk_21 4 (dk_at dksX52_cut_0 10 rfl rfl)
theorem dX52_cut_12 : decode cX52_cut 12 = .ok (.bipush 64, 2) := dk_16 64 (dk_at dksX52_cut_0 12 rfl rfl)
theorem dX52_cut_14 : decode cX52_cut 14 = .ok (.if_icmp .ge 33, 3) := dk_162 0 33 (dk_at dksX52_cut_0 14 rfl rfl)
theorem dX52_cut_17 : decode cX52_cut 17 = .ok (.aload_n 0, 1) := dk_42 (dk_at dksX52_cut_0 17 rfl rfl)
theorem dX52_cut_18 : decode cX52_cut 18 = .ok (.iload 4, 2) := dk_21 4 (dk_at dksX52_cut_0 18 rfl rfl)
theorem dX52_cut_20 : decode cX52_cut 20 = .ok (.invokevirtual 204, 3) := dk_182 0 204 (dk_at dksX52_cut_0 20 rfl rfl)
theorem dX52_cut_23 : decode cX52_cut 23 = .ok (.ifCond .eq 18, 3) := dk_153 0 18 (dk_at dksX52_cut_1 0 rfl rfl)
theorem dX52_cut_26 : decode cX52_cut 26 = .ok (.iload_n 3, 1) := dk_29 (dk_at dksX52_cut_1 3 rfl rfl)
theorem dX52_cut_27 : decode cX52_cut 27 = .ok (.iload_n 1, 1) := dk_27 (dk_at dksX52_cut_1 4 rfl rfl)
theorem dX52_cut_28 : decode cX52_cut 28 = .ok (.if_icmp .ne 10, 3) := dk_160 0 10 (dk_at dksX52_cut_1 5 rfl rfl)
theorem dX52_cut_31 : decode cX52_cut 31 = .ok (.iload 4, 2) := dk_21 4 (dk_at dksX52_cut_1 8 rfl rfl)
theorem dX52_cut_33 : decode cX52_cut 33 = .ok (.iload_n 2, 1) := dk_28 (dk_at dksX52_cut_1 10 rfl rfl)
theorem dX52_cut_34 : decode cX52_cut 34 = .ok (.invokestatic 207, 3) := dk_184 0 207 (dk_at dksX52_cut_1 11 rfl rfl)
theorem dX52_cut_37 : decode cX52_cut 37 = .ok (.ireturn, 1) := dk_172 (dk_at dksX52_cut_1 14 rfl rfl)
theorem dX52_cut_38 : decode cX52_cut 38 = .ok (.iinc 3 1, 3) := dk_132 3 1 (dk_at dksX52_cut_1 15 rfl rfl)
theorem dX52_cut_41 : decode cX52_cut 41 = .ok (.iinc 4 1, 3) := dk_132 4 1 (dk_at dksX52_cut_1 18 rfl rfl)
theorem dX52_cut_44 : decode cX52_cut 44 = .ok (.goto (-34), 3) := dk_167 255 222 (dk_at dksX52_cut_1 21 rfl rfl)
theorem dX52_cut_47 : decode cX52_cut 47 = .ok (.iconst (-1), 1) := dk_2 (dk_at dksX52_cut_2 0 rfl rfl)
theorem dX52_cut_48 : decode cX52_cut 48 = .ok (.ireturn, 1) := dk_172 (dk_at dksX52_cut_2 1 rfl rfl)
abbrev cX52_bitOf : ByteArray := prog_63_method_45_code
def yX52_bitOf : MethodName := ⟨RX52, "bitOf", "(II)I"⟩
def dkwX52_bitOf_1 : List UInt8 := [172, 132, 2, 1, 132, 3, 1, 167, 255, 229, 2, 172]
abbrev dktX52_bitOf_1 : List UInt8 := dkwX52_bitOf_1 ++ []
def dkwX52_bitOf_0 : List UInt8 := [3, 61, 3, 62, 29, 16, 6, 162, 0, 27, 26, 29, 184, 0, 116, 153, 0, 13, 28, 27, 160, 0, 5, 29]
abbrev dktX52_bitOf_0 : List UInt8 := dkwX52_bitOf_0 ++ dktX52_bitOf_1
theorem dksX52_bitOf_0 : cX52_bitOf.data.toList.drop 0 = dktX52_bitOf_0 := by decide +kernel
theorem dksX52_bitOf_1 : cX52_bitOf.data.toList.drop 24 = dktX52_bitOf_1 := dk_seg dksX52_bitOf_0 24 rfl rfl
theorem dX52_bitOf_0 : decode cX52_bitOf 0 = .ok (.iconst 0, 1) := dk_3 (dk_at dksX52_bitOf_0 0 rfl rfl)
theorem dX52_bitOf_1 : decode cX52_bitOf 1 = .ok (.istore_n 2, 1) := dk_61 (dk_at dksX52_bitOf_0 1 rfl rfl)
theorem dX52_bitOf_2 : decode cX52_bitOf 2 = .ok (.iconst 0, 1) := dk_3 (dk_at dksX52_bitOf_0 2 rfl rfl)
theorem dX52_bitOf_3 : decode cX52_bitOf 3 = .ok (.istore_n 3, 1) := dk_62 (dk_at dksX52_bitOf_0 3 rfl rfl)
theorem dX52_bitOf_4 : decode cX52_bitOf 4 = .ok (.iload_n 3, 1) := dk_29 (dk_at dksX52_bitOf_0 4 rfl rfl)
theorem dX52_bitOf_5 : decode cX52_bitOf 5 = .ok (.bipush 6, 2) := dk_16 6 (dk_at dksX52_bitOf_0 5 rfl rfl)
theorem dX52_bitOf_7 : decode cX52_bitOf 7 = .ok (.if_icmp .ge 27, 3) := dk_162 0 27 (dk_at dksX52_bitOf_0 7 rfl rfl)
theorem dX52_bitOf_10 : decode cX52_bitOf 10 = .ok (.iload_n 0, 1) := dk_26 (dk_at dksX52_bitOf_0 10 rfl rfl)
theorem dX52_bitOf_11 : decode cX52_bitOf 11 = .ok (.iload_n 3, 1) := dk_29 (dk_at dksX52_bitOf_0 11 rfl rfl)
theorem dX52_bitOf_12 : decode cX52_bitOf 12 = .ok (.invokestatic 116, 3) := dk_184 0 116 (dk_at dksX52_bitOf_0 12 rfl rfl)
theorem dX52_bitOf_15 : decode cX52_bitOf 15 = .ok (.ifCond .eq 13, 3) := dk_153 0 13 (dk_at dksX52_bitOf_0 15 rfl rfl)
theorem dX52_bitOf_18 : decode cX52_bitOf 18 = .ok (.iload_n 2, 1) := dk_28 (dk_at dksX52_bitOf_0 18 rfl rfl)
theorem dX52_bitOf_19 : decode cX52_bitOf 19 = .ok (.iload_n 1, 1) := dk_27 (dk_at dksX52_bitOf_0 19 rfl rfl)
theorem dX52_bitOf_20 : decode cX52_bitOf 20 = .ok (.if_icmp .ne 5, 3) := dk_160 0 5 (dk_at dksX52_bitOf_0 20 rfl rfl)
theorem dX52_bitOf_23 : decode cX52_bitOf 23 = .ok (.iload_n 3, 1) := dk_29 (dk_at dksX52_bitOf_0 23 rfl rfl)
theorem dX52_bitOf_24 : decode cX52_bitOf 24 = .ok (.ireturn, 1) := dk_172 (dk_at dksX52_bitOf_1 0 rfl rfl)
theorem dX52_bitOf_25 : decode cX52_bitOf 25 = .ok (.iinc 2 1, 3) := dk_132 2 1 (dk_at dksX52_bitOf_1 1 rfl rfl)
theorem dX52_bitOf_28 : decode cX52_bitOf 28 = .ok (.iinc 3 1, 3) := dk_132 3 1 (dk_at dksX52_bitOf_1 4 rfl rfl)
theorem dX52_bitOf_31 : decode cX52_bitOf 31 = .ok (.goto (-27), 3) := dk_167 255 229 (dk_at dksX52_bitOf_1 7 rfl rfl)
theorem dX52_bitOf_34 : decode cX52_bitOf 34 = .ok (.iconst (-1), 1) := dk_2 (dk_at dksX52_bitOf_1 10 rfl rfl)
theorem dX52_bitOf_35 : decode cX52_bitOf 35 = .ok (.ireturn, 1) := dk_172 (dk_at dksX52_bitOf_1 11 rfl rfl)
abbrev cX52_check : ByteArray := prog_63_method_46_code
def yX52_check : MethodName := ⟨RX52, "check", "()I"⟩
def dkwX52_check_4 : List UInt8 := [182, 0, 127, 42, 180, 0, 35, 28, 46, 159, 0, 5, 27, 172, 132, 2, 1, 167, 255, 153, 3, 172]
abbrev dktX52_check_4 : List UInt8 := dkwX52_check_4 ++ []
def dkwX52_check_3 : List UInt8 := [89, 180, 0, 102, 4, 96, 181, 0, 102, 132, 3, 1, 167, 255, 206, 42, 182, 0, 124, 153, 0, 16, 42]
abbrev dktX52_check_3 : List UInt8 := dkwX52_check_3 ++ dktX52_check_4
def dkwX52_check_2 : List UInt8 := [29, 96, 46, 155, 0, 36, 42, 180, 0, 44, 29, 42, 180, 0, 38, 16, 6, 28, 104, 29, 96, 46, 79, 42]
abbrev dktX52_check_2 : List UInt8 := dkwX52_check_2 ++ dktX52_check_3
def dkwX52_check_1 : List UInt8 := [132, 1, 1, 42, 3, 181, 0, 102, 3, 62, 29, 16, 6, 162, 0, 50, 42, 180, 0, 38, 16, 6, 28, 104]
abbrev dktX52_check_1 : List UInt8 := dkwX52_check_1 ++ dktX52_check_2
def dkwX52_check_0 : List UInt8 := [42, 3, 181, 0, 72, 3, 60, 4, 61, 28, 16, 64, 162, 0, 103, 42, 180, 0, 35, 28, 46, 155, 0, 88]
abbrev dktX52_check_0 : List UInt8 := dkwX52_check_0 ++ dktX52_check_1
theorem dksX52_check_0 : cX52_check.data.toList.drop 0 = dktX52_check_0 := by decide +kernel
theorem dksX52_check_1 : cX52_check.data.toList.drop 24 = dktX52_check_1 := dk_seg dksX52_check_0 24 rfl rfl
theorem dksX52_check_2 : cX52_check.data.toList.drop 48 = dktX52_check_2 := dk_seg dksX52_check_1 24 rfl rfl
theorem dksX52_check_3 : cX52_check.data.toList.drop 72 = dktX52_check_3 := dk_seg dksX52_check_2 24 rfl rfl
theorem dksX52_check_4 : cX52_check.data.toList.drop 95 = dktX52_check_4 := dk_seg dksX52_check_3 23 rfl rfl
theorem dX52_check_0 : decode cX52_check 0 = .ok (.aload_n 0, 1) := dk_42 (dk_at dksX52_check_0 0 rfl rfl)
theorem dX52_check_1 : decode cX52_check 1 = .ok (.iconst 0, 1) := dk_3 (dk_at dksX52_check_0 1 rfl rfl)
theorem dX52_check_2 : decode cX52_check 2 = .ok (.putfield 72, 3) := dk_181 0 72 (dk_at dksX52_check_0 2 rfl rfl)
theorem dX52_check_5 : decode cX52_check 5 = .ok (.iconst 0, 1) := dk_3 (dk_at dksX52_check_0 5 rfl rfl)
theorem dX52_check_6 : decode cX52_check 6 = .ok (.istore_n 1, 1) := dk_60 (dk_at dksX52_check_0 6 rfl rfl)
theorem dX52_check_7 : decode cX52_check 7 = .ok (.iconst 1, 1) := dk_4 (dk_at dksX52_check_0 7 rfl rfl)
theorem dX52_check_8 : decode cX52_check 8 = .ok (.istore_n 2, 1) := dk_61 (dk_at dksX52_check_0 8 rfl rfl)
theorem dX52_check_9 : decode cX52_check 9 = .ok (.iload_n 2, 1) := dk_28 (dk_at dksX52_check_0 9 rfl rfl)
theorem dX52_check_10 : decode cX52_check 10 = .ok (.bipush 64, 2) := dk_16 64 (dk_at dksX52_check_0 10 rfl rfl)
theorem dX52_check_12 : decode cX52_check 12 = .ok (.if_icmp .ge 103, 3) := dk_162 0 103 (dk_at dksX52_check_0 12 rfl rfl)
theorem dX52_check_15 : decode cX52_check 15 = .ok (.aload_n 0, 1) := dk_42 (dk_at dksX52_check_0 15 rfl rfl)
theorem dX52_check_16 : decode cX52_check 16 = .ok (.getfield 35, 3) := dk_180 0 35 (dk_at dksX52_check_0 16 rfl rfl)
theorem dX52_check_19 : decode cX52_check 19 = .ok (.iload_n 2, 1) := dk_28 (dk_at dksX52_check_0 19 rfl rfl)
theorem dX52_check_20 : decode cX52_check 20 = .ok (.iaload, 1) := dk_46 (dk_at dksX52_check_0 20 rfl rfl)
theorem dX52_check_21 : decode cX52_check 21 = .ok (.ifCond .lt 88, 3) := dk_155 0 88 (dk_at dksX52_check_0 21 rfl rfl)
theorem dX52_check_24 : decode cX52_check 24 = .ok (.iinc 1 1, 3) := dk_132 1 1 (dk_at dksX52_check_1 0 rfl rfl)
theorem dX52_check_27 : decode cX52_check 27 = .ok (.aload_n 0, 1) := dk_42 (dk_at dksX52_check_1 3 rfl rfl)
theorem dX52_check_28 : decode cX52_check 28 = .ok (.iconst 0, 1) := dk_3 (dk_at dksX52_check_1 4 rfl rfl)
theorem dX52_check_29 : decode cX52_check 29 = .ok (.putfield 102, 3) := dk_181 0 102 (dk_at dksX52_check_1 5 rfl rfl)
theorem dX52_check_32 : decode cX52_check 32 = .ok (.iconst 0, 1) := dk_3 (dk_at dksX52_check_1 8 rfl rfl)
theorem dX52_check_33 : decode cX52_check 33 = .ok (.istore_n 3, 1) := dk_62 (dk_at dksX52_check_1 9 rfl rfl)
theorem dX52_check_34 : decode cX52_check 34 = .ok (.iload_n 3, 1) := dk_29 (dk_at dksX52_check_1 10 rfl rfl)
theorem dX52_check_35 : decode cX52_check 35 = .ok (.bipush 6, 2) := dk_16 6 (dk_at dksX52_check_1 11 rfl rfl)
theorem dX52_check_37 : decode cX52_check 37 = .ok (.if_icmp .ge 50, 3) := dk_162 0 50 (dk_at dksX52_check_1 13 rfl rfl)
theorem dX52_check_40 : decode cX52_check 40 = .ok (.aload_n 0, 1) := dk_42 (dk_at dksX52_check_1 16 rfl rfl)
theorem dX52_check_41 : decode cX52_check 41 = .ok (.getfield 38, 3) := dk_180 0 38 (dk_at dksX52_check_1 17 rfl rfl)
theorem dX52_check_44 : decode cX52_check 44 = .ok (.bipush 6, 2) := dk_16 6 (dk_at dksX52_check_1 20 rfl rfl)
theorem dX52_check_46 : decode cX52_check 46 = .ok (.iload_n 2, 1) := dk_28 (dk_at dksX52_check_1 22 rfl rfl)
theorem dX52_check_47 : decode cX52_check 47 = .ok (.imul, 1) := dk_104 (dk_at dksX52_check_1 23 rfl rfl)
theorem dX52_check_48 : decode cX52_check 48 = .ok (.iload_n 3, 1) := dk_29 (dk_at dksX52_check_2 0 rfl rfl)
theorem dX52_check_49 : decode cX52_check 49 = .ok (.iadd, 1) := dk_96 (dk_at dksX52_check_2 1 rfl rfl)
theorem dX52_check_50 : decode cX52_check 50 = .ok (.iaload, 1) := dk_46 (dk_at dksX52_check_2 2 rfl rfl)
theorem dX52_check_51 : decode cX52_check 51 = .ok (.ifCond .lt 36, 3) := dk_155 0 36 (dk_at dksX52_check_2 3 rfl rfl)
theorem dX52_check_54 : decode cX52_check 54 = .ok (.aload_n 0, 1) := dk_42 (dk_at dksX52_check_2 6 rfl rfl)
theorem dX52_check_55 : decode cX52_check 55 = .ok (.getfield 44, 3) := dk_180 0 44 (dk_at dksX52_check_2 7 rfl rfl)
theorem dX52_check_58 : decode cX52_check 58 = .ok (.iload_n 3, 1) := dk_29 (dk_at dksX52_check_2 10 rfl rfl)
theorem dX52_check_59 : decode cX52_check 59 = .ok (.aload_n 0, 1) := dk_42 (dk_at dksX52_check_2 11 rfl rfl)
theorem dX52_check_60 : decode cX52_check 60 = .ok (.getfield 38, 3) := dk_180 0 38 (dk_at dksX52_check_2 12 rfl rfl)
theorem dX52_check_63 : decode cX52_check 63 = .ok (.bipush 6, 2) := dk_16 6 (dk_at dksX52_check_2 15 rfl rfl)
theorem dX52_check_65 : decode cX52_check 65 = .ok (.iload_n 2, 1) := dk_28 (dk_at dksX52_check_2 17 rfl rfl)
theorem dX52_check_66 : decode cX52_check 66 = .ok (.imul, 1) := dk_104 (dk_at dksX52_check_2 18 rfl rfl)
theorem dX52_check_67 : decode cX52_check 67 = .ok (.iload_n 3, 1) := dk_29 (dk_at dksX52_check_2 19 rfl rfl)
theorem dX52_check_68 : decode cX52_check 68 = .ok (.iadd, 1) := dk_96 (dk_at dksX52_check_2 20 rfl rfl)
theorem dX52_check_69 : decode cX52_check 69 = .ok (.iaload, 1) := dk_46 (dk_at dksX52_check_2 21 rfl rfl)
theorem dX52_check_70 : decode cX52_check 70 = .ok (.iastore, 1) := dk_79 (dk_at dksX52_check_2 22 rfl rfl)
theorem dX52_check_71 : decode cX52_check 71 = .ok (.aload_n 0, 1) := dk_42 (dk_at dksX52_check_2 23 rfl rfl)
theorem dX52_check_72 : decode cX52_check 72 = .ok (.dup, 1) := dk_89 (dk_at dksX52_check_3 0 rfl rfl)
theorem dX52_check_73 : decode cX52_check 73 = .ok (.getfield 102, 3) := dk_180 0 102 (dk_at dksX52_check_3 1 rfl rfl)
theorem dX52_check_76 : decode cX52_check 76 = .ok (.iconst 1, 1) := dk_4 (dk_at dksX52_check_3 4 rfl rfl)
theorem dX52_check_77 : decode cX52_check 77 = .ok (.iadd, 1) := dk_96 (dk_at dksX52_check_3 5 rfl rfl)
theorem dX52_check_78 : decode cX52_check 78 = .ok (.putfield 102, 3) := dk_181 0 102 (dk_at dksX52_check_3 6 rfl rfl)
theorem dX52_check_81 : decode cX52_check 81 = .ok (.iinc 3 1, 3) := dk_132 3 1 (dk_at dksX52_check_3 9 rfl rfl)
theorem dX52_check_84 : decode cX52_check 84 = .ok (.goto (-50), 3) := dk_167 255 206 (dk_at dksX52_check_3 12 rfl rfl)
theorem dX52_check_87 : decode cX52_check 87 = .ok (.aload_n 0, 1) := dk_42 (dk_at dksX52_check_3 15 rfl rfl)
theorem dX52_check_88 : decode cX52_check 88 = .ok (.invokevirtual 124, 3) := dk_182 0 124 (dk_at dksX52_check_3 16 rfl rfl)
theorem dX52_check_91 : decode cX52_check 91 = .ok (.ifCond .eq 16, 3) := dk_153 0 16 (dk_at dksX52_check_3 19 rfl rfl)
theorem dX52_check_94 : decode cX52_check 94 = .ok (.aload_n 0, 1) := dk_42 (dk_at dksX52_check_3 22 rfl rfl)
theorem dX52_check_95 : decode cX52_check 95 = .ok (.invokevirtual 127, 3) := dk_182 0 127 (dk_at dksX52_check_4 0 rfl rfl)
theorem dX52_check_98 : decode cX52_check 98 = .ok (.aload_n 0, 1) := dk_42 (dk_at dksX52_check_4 3 rfl rfl)
theorem dX52_check_99 : decode cX52_check 99 = .ok (.getfield 35, 3) := dk_180 0 35 (dk_at dksX52_check_4 4 rfl rfl)
theorem dX52_check_102 : decode cX52_check 102 = .ok (.iload_n 2, 1) := dk_28 (dk_at dksX52_check_4 7 rfl rfl)
theorem dX52_check_103 : decode cX52_check 103 = .ok (.iaload, 1) := dk_46 (dk_at dksX52_check_4 8 rfl rfl)
theorem dX52_check_104 : decode cX52_check 104 = .ok (.if_icmp .eq 5, 3) := dk_159 0 5 (dk_at dksX52_check_4 9 rfl rfl)
theorem dX52_check_107 : decode cX52_check 107 = .ok (.iload_n 1, 1) := dk_27 (dk_at dksX52_check_4 12 rfl rfl)
theorem dX52_check_108 : decode cX52_check 108 = .ok (.ireturn, 1) := dk_172 (dk_at dksX52_check_4 13 rfl rfl)
theorem dX52_check_109 : decode cX52_check 109 = .ok (.iinc 2 1, 3) := dk_132 2 1 (dk_at dksX52_check_4 14 rfl rfl)
theorem dX52_check_112 : decode cX52_check 112 = .ok (.goto (-103), 3) := dk_167 255 153 (dk_at dksX52_check_4 17 rfl rfl)
theorem dX52_check_115 : decode cX52_check 115 = .ok (.iconst 0, 1) := dk_3 (dk_at dksX52_check_4 20 rfl rfl)
theorem dX52_check_116 : decode cX52_check 116 = .ok (.ireturn, 1) := dk_172 (dk_at dksX52_check_4 21 rfl rfl)
abbrev cX52_labelsClosed : ByteArray := prog_63_method_47_code
def yX52_labelsClosed : MethodName := ⟨RX52, "labelsClosed", "()Z"⟩
def dkwX52_labelsClosed_3 : List UInt8 := [167, 255, 199, 27, 172]
abbrev dktX52_labelsClosed_3 : List UInt8 := dkwX52_labelsClosed_3 ++ []
def dkwX52_labelsClosed_2 : List UInt8 := [180, 0, 35, 29, 46, 155, 0, 7, 4, 167, 0, 4, 3, 60, 132, 3, 1, 167, 255, 213, 132, 2, 1]
abbrev dktX52_labelsClosed_2 : List UInt8 := dkwX52_labelsClosed_2 ++ dktX52_labelsClosed_3
def dkwX52_labelsClosed_1 : List UInt8 := [162, 0, 44, 42, 180, 0, 35, 28, 46, 155, 0, 35, 27, 153, 0, 23, 29, 28, 126, 29, 160, 0, 12, 42]
abbrev dktX52_labelsClosed_1 : List UInt8 := dkwX52_labelsClosed_1 ++ dktX52_labelsClosed_2
def dkwX52_labelsClosed_0 : List UInt8 := [42, 3, 181, 0, 72, 42, 180, 0, 133, 60, 4, 61, 28, 16, 64, 162, 0, 57, 4, 62, 29, 28]
abbrev dktX52_labelsClosed_0 : List UInt8 := dkwX52_labelsClosed_0 ++ dktX52_labelsClosed_1
theorem dksX52_labelsClosed_0 : cX52_labelsClosed.data.toList.drop 0 = dktX52_labelsClosed_0 := by decide +kernel
theorem dksX52_labelsClosed_1 : cX52_labelsClosed.data.toList.drop 22 = dktX52_labelsClosed_1 := dk_seg dksX52_labelsClosed_0 22 rfl rfl
theorem dksX52_labelsClosed_2 : cX52_labelsClosed.data.toList.drop 46 = dktX52_labelsClosed_2 := dk_seg dksX52_labelsClosed_1 24 rfl rfl
theorem dksX52_labelsClosed_3 : cX52_labelsClosed.data.toList.drop 69 = dktX52_labelsClosed_3 := dk_seg dksX52_labelsClosed_2 23 rfl rfl
theorem dX52_labelsClosed_0 : decode cX52_labelsClosed 0 = .ok (.aload_n 0, 1) := dk_42 (dk_at dksX52_labelsClosed_0 0 rfl rfl)
theorem dX52_labelsClosed_1 : decode cX52_labelsClosed 1 = .ok (.iconst 0, 1) := dk_3 (dk_at dksX52_labelsClosed_0 1 rfl rfl)
theorem dX52_labelsClosed_2 : decode cX52_labelsClosed 2 = .ok (.putfield 72, 3) := dk_181 0 72 (dk_at dksX52_labelsClosed_0 2 rfl rfl)
theorem dX52_labelsClosed_5 : decode cX52_labelsClosed 5 = .ok (.aload_n 0, 1) := dk_42 (dk_at dksX52_labelsClosed_0 5 rfl rfl)
theorem dX52_labelsClosed_6 : decode cX52_labelsClosed 6 = .ok (.getfield 133, 3) := dk_180 0 133 (dk_at dksX52_labelsClosed_0 6 rfl rfl)
theorem dX52_labelsClosed_9 : decode cX52_labelsClosed 9 = .ok (.istore_n 1, 1) := dk_60 (dk_at dksX52_labelsClosed_0 9 rfl rfl)
theorem dX52_labelsClosed_10 : decode cX52_labelsClosed 10 = .ok (.iconst 1, 1) := dk_4 (dk_at dksX52_labelsClosed_0 10 rfl rfl)
theorem dX52_labelsClosed_11 : decode cX52_labelsClosed 11 = .ok (.istore_n 2, 1) := dk_61 (dk_at dksX52_labelsClosed_0 11 rfl rfl)
theorem dX52_labelsClosed_12 : decode cX52_labelsClosed 12 = .ok (.iload_n 2, 1) := dk_28 (dk_at dksX52_labelsClosed_0 12 rfl rfl)
theorem dX52_labelsClosed_13 : decode cX52_labelsClosed 13 = .ok (.bipush 64, 2) := dk_16 64 (dk_at dksX52_labelsClosed_0 13 rfl rfl)
theorem dX52_labelsClosed_15 : decode cX52_labelsClosed 15 = .ok (.if_icmp .ge 57, 3) := dk_162 0 57 (dk_at dksX52_labelsClosed_0 15 rfl rfl)
theorem dX52_labelsClosed_18 : decode cX52_labelsClosed 18 = .ok (.iconst 1, 1) := dk_4 (dk_at dksX52_labelsClosed_0 18 rfl rfl)
theorem dX52_labelsClosed_19 : decode cX52_labelsClosed 19 = .ok (.istore_n 3, 1) := dk_62 (dk_at dksX52_labelsClosed_0 19 rfl rfl)
theorem dX52_labelsClosed_20 : decode cX52_labelsClosed 20 = .ok (.iload_n 3, 1) := dk_29 (dk_at dksX52_labelsClosed_0 20 rfl rfl)
theorem dX52_labelsClosed_21 : decode cX52_labelsClosed 21 = .ok (.iload_n 2, 1) := dk_28 (dk_at dksX52_labelsClosed_0 21 rfl rfl)
theorem dX52_labelsClosed_22 : decode cX52_labelsClosed 22 = .ok (.if_icmp .ge 44, 3) := dk_162 0 44 (dk_at dksX52_labelsClosed_1 0 rfl rfl)
theorem dX52_labelsClosed_25 : decode cX52_labelsClosed 25 = .ok (.aload_n 0, 1) := dk_42 (dk_at dksX52_labelsClosed_1 3 rfl rfl)
theorem dX52_labelsClosed_26 : decode cX52_labelsClosed 26 = .ok (.getfield 35, 3) := dk_180 0 35 (dk_at dksX52_labelsClosed_1 4 rfl rfl)
theorem dX52_labelsClosed_29 : decode cX52_labelsClosed 29 = .ok (.iload_n 2, 1) := dk_28 (dk_at dksX52_labelsClosed_1 7 rfl rfl)
theorem dX52_labelsClosed_30 : decode cX52_labelsClosed 30 = .ok (.iaload, 1) := dk_46 (dk_at dksX52_labelsClosed_1 8 rfl rfl)
theorem dX52_labelsClosed_31 : decode cX52_labelsClosed 31 = .ok (.ifCond .lt 35, 3) := dk_155 0 35 (dk_at dksX52_labelsClosed_1 9 rfl rfl)
theorem dX52_labelsClosed_34 : decode cX52_labelsClosed 34 = .ok (.iload_n 1, 1) := dk_27 (dk_at dksX52_labelsClosed_1 12 rfl rfl)
theorem dX52_labelsClosed_35 : decode cX52_labelsClosed 35 = .ok (.ifCond .eq 23, 3) := dk_153 0 23 (dk_at dksX52_labelsClosed_1 13 rfl rfl)
theorem dX52_labelsClosed_38 : decode cX52_labelsClosed 38 = .ok (.iload_n 3, 1) := dk_29 (dk_at dksX52_labelsClosed_1 16 rfl rfl)
theorem dX52_labelsClosed_39 : decode cX52_labelsClosed 39 = .ok (.iload_n 2, 1) := dk_28 (dk_at dksX52_labelsClosed_1 17 rfl rfl)
theorem dX52_labelsClosed_40 : decode cX52_labelsClosed 40 = .ok (.iand, 1) := dk_126 (dk_at dksX52_labelsClosed_1 18 rfl rfl)
theorem dX52_labelsClosed_41 : decode cX52_labelsClosed 41 = .ok (.iload_n 3, 1) := dk_29 (dk_at dksX52_labelsClosed_1 19 rfl rfl)
theorem dX52_labelsClosed_42 : decode cX52_labelsClosed 42 = .ok (.if_icmp .ne 12, 3) := dk_160 0 12 (dk_at dksX52_labelsClosed_1 20 rfl rfl)
theorem dX52_labelsClosed_45 : decode cX52_labelsClosed 45 = .ok (.aload_n 0, 1) := dk_42 (dk_at dksX52_labelsClosed_1 23 rfl rfl)
theorem dX52_labelsClosed_46 : decode cX52_labelsClosed 46 = .ok (.getfield 35, 3) := dk_180 0 35 (dk_at dksX52_labelsClosed_2 0 rfl rfl)
theorem dX52_labelsClosed_49 : decode cX52_labelsClosed 49 = .ok (.iload_n 3, 1) := dk_29 (dk_at dksX52_labelsClosed_2 3 rfl rfl)
theorem dX52_labelsClosed_50 : decode cX52_labelsClosed 50 = .ok (.iaload, 1) := dk_46 (dk_at dksX52_labelsClosed_2 4 rfl rfl)
theorem dX52_labelsClosed_51 : decode cX52_labelsClosed 51 = .ok (.ifCond .lt 7, 3) := dk_155 0 7 (dk_at dksX52_labelsClosed_2 5 rfl rfl)
theorem dX52_labelsClosed_54 : decode cX52_labelsClosed 54 = .ok (.iconst 1, 1) := dk_4 (dk_at dksX52_labelsClosed_2 8 rfl rfl)
theorem dX52_labelsClosed_55 : decode cX52_labelsClosed 55 = .ok (.goto 4, 3) := dk_167 0 4 (dk_at dksX52_labelsClosed_2 9 rfl rfl)
theorem dX52_labelsClosed_58 : decode cX52_labelsClosed 58 = .ok (.iconst 0, 1) := dk_3 (dk_at dksX52_labelsClosed_2 12 rfl rfl)
theorem dX52_labelsClosed_59 : decode cX52_labelsClosed 59 = .ok (.istore_n 1, 1) := dk_60 (dk_at dksX52_labelsClosed_2 13 rfl rfl)
theorem dX52_labelsClosed_60 : decode cX52_labelsClosed 60 = .ok (.iinc 3 1, 3) := dk_132 3 1 (dk_at dksX52_labelsClosed_2 14 rfl rfl)
theorem dX52_labelsClosed_63 : decode cX52_labelsClosed 63 = .ok (.goto (-43), 3) := dk_167 255 213 (dk_at dksX52_labelsClosed_2 17 rfl rfl)
theorem dX52_labelsClosed_66 : decode cX52_labelsClosed 66 = .ok (.iinc 2 1, 3) := dk_132 2 1 (dk_at dksX52_labelsClosed_2 20 rfl rfl)
theorem dX52_labelsClosed_69 : decode cX52_labelsClosed 69 = .ok (.goto (-57), 3) := dk_167 255 199 (dk_at dksX52_labelsClosed_3 0 rfl rfl)
theorem dX52_labelsClosed_72 : decode cX52_labelsClosed 72 = .ok (.iload_n 1, 1) := dk_27 (dk_at dksX52_labelsClosed_3 3 rfl rfl)
theorem dX52_labelsClosed_73 : decode cX52_labelsClosed 73 = .ok (.ireturn, 1) := dk_172 (dk_at dksX52_labelsClosed_3 4 rfl rfl)
abbrev cX52_thrown : ByteArray := prog_63_method_2_code
def yX52_thrown : MethodName := ⟨RX52, "thrown", "()I"⟩
theorem dX52_thrown_0 : decode cX52_thrown 0 = .ok (.aload_n 0, 1) := by decide +kernel
theorem dX52_thrown_1 : decode cX52_thrown 1 = .ok (.getfield 72, 3) := by decide +kernel
theorem dX52_thrown_4 : decode cX52_thrown 4 = .ok (.ireturn, 1) := by decide +kernel
theorem q458 : (Jvm.Cond.initialized "WasteHouseModel$RoundColumnsModel") ∈ lw_all := lw_g (lw_at lw_m1 66 rfl) rfl
theorem q2031 : (Jvm.Cond.selects "WasteHouseModel$RoundColumnsModel" ({ cls := "java/lang/Object", name := "getClass", desc := "()Ljava/lang/Class;" } : Jvm.MethodName) ({ cls := "java/lang/Object", name := "getClass", desc := "()Ljava/lang/Class;" } : Jvm.MethodName)) ∈ lw_all := lw_g (lw_at lw_m7 199 rfl) rfl
theorem q3141 : (Jvm.Cond.selects "WasteHouseModel$RoundColumnsModel" ({ cls := "java/lang/Object", name := "equals", desc := "(Ljava/lang/Object;)Z" } : Jvm.MethodName) ({ cls := "java/lang/Object", name := "equals", desc := "(Ljava/lang/Object;)Z" } : Jvm.MethodName)) ∈ lw_all := lw_g (lw_at lw_m12 109 rfl) rfl
theorem q3659 : (Jvm.Cond.selects "WasteHouseModel$RoundColumnsModel" ({ cls := "java/lang/Object", name := "hashCode", desc := "()I" } : Jvm.MethodName) ({ cls := "java/lang/Object", name := "hashCode", desc := "()I" } : Jvm.MethodName)) ∈ lw_all := lw_g (lw_at lw_m14 147 rfl) rfl
theorem q6976 : (Jvm.Cond.instantiable "WasteHouseModel$RoundColumnsModel" (30 : Nat)) ∈ lw_all := lw_g (lw_at lw_m28 104 rfl) rfl
theorem q6978 : (Jvm.Cond.instanceMethod ({ cls := "WasteHouseModel$RoundColumnsModel", name := "<init>", desc := "()V" } : Jvm.MethodName)) ∈ lw_all := lw_g (lw_at lw_m28 106 rfl) rfl
theorem q6979 : (Jvm.Cond.code ({ cls := "WasteHouseModel$RoundColumnsModel", name := "<init>", desc := "()V" } : Jvm.MethodName) prog_63_method_1_code (2 : Nat) (Option.none : Option Jvm.ClassFile.FieldType)) ∈ lw_all := lw_g (lw_at lw_m28 107 rfl) rfl
theorem q6980 : (Jvm.Cond.methodLink "WasteHouseModel$RoundColumnsModel" (1 : Nat) ({ cls := "java/lang/Object", name := "<init>", desc := "()V" } : Jvm.MethodName)) ∈ lw_all := lw_g (lw_at lw_m28 108 rfl) rfl
theorem q6981 : (Jvm.Cond.fieldLink "WasteHouseModel$RoundColumnsModel" (76 : Nat) "WasteHouseModel$RoundColumnsModel" "bins" "I") ∈ lw_all := lw_g (lw_at lw_m28 109 rfl) rfl
theorem q6982 : (Jvm.Cond.fieldLink "WasteHouseModel$RoundColumnsModel" (7 : Nat) "WasteHouseModel$RoundColumnsModel" "kilograms" "[I") ∈ lw_all := lw_g (lw_at lw_m28 110 rfl) rfl
theorem q6983 : (Jvm.Cond.fieldLink "WasteHouseModel$RoundColumnsModel" (13 : Nat) "WasteHouseModel$RoundColumnsModel" "seconds" "[I") ∈ lw_all := lw_g (lw_at lw_m28 111 rfl) rfl
theorem q6984 : (Jvm.Cond.fieldLink "WasteHouseModel$RoundColumnsModel" (16 : Nat) "WasteHouseModel$RoundColumnsModel" "waySeconds" "[I") ∈ lw_all := lw_g (lw_at lw_m28 112 rfl) rfl
theorem q6985 : (Jvm.Cond.fieldLink "WasteHouseModel$RoundColumnsModel" (19 : Nat) "WasteHouseModel$RoundColumnsModel" "wayCosts" "[I") ∈ lw_all := lw_g (lw_at lw_m28 113 rfl) rfl
theorem q6986 : (Jvm.Cond.fieldLink "WasteHouseModel$RoundColumnsModel" (93 : Nat) "WasteHouseModel$RoundColumnsModel" "load" "I") ∈ lw_all := lw_g (lw_at lw_m28 114 rfl) rfl
theorem q6987 : (Jvm.Cond.fieldLink "WasteHouseModel$RoundColumnsModel" (96 : Nat) "WasteHouseModel$RoundColumnsModel" "time" "I") ∈ lw_all := lw_g (lw_at lw_m28 115 rfl) rfl
theorem q6988 : (Jvm.Cond.fieldLink "WasteHouseModel$RoundColumnsModel" (99 : Nat) "WasteHouseModel$RoundColumnsModel" "vehicles" "I") ∈ lw_all := lw_g (lw_at lw_m28 116 rfl) rfl
theorem q6989 : (Jvm.Cond.fieldLink "WasteHouseModel$RoundColumnsModel" (22 : Nat) "WasteHouseModel$RoundColumnsModel" "pairs" "[I") ∈ lw_all := lw_g (lw_at lw_m28 117 rfl) rfl
theorem q6990 : (Jvm.Cond.fieldLink "WasteHouseModel$RoundColumnsModel" (133 : Nat) "WasteHouseModel$RoundColumnsModel" "isFound" "Z") ∈ lw_all := lw_g (lw_at lw_m28 118 rfl) rfl
theorem q6991 : (Jvm.Cond.fieldLink "WasteHouseModel$RoundColumnsModel" (137 : Nat) "WasteHouseModel$RoundColumnsModel" "foundBins" "I") ∈ lw_all := lw_g (lw_at lw_m28 119 rfl) rfl
theorem q6992 : (Jvm.Cond.fieldLink "WasteHouseModel$RoundColumnsModel" (140 : Nat) "WasteHouseModel$RoundColumnsModel" "foundLoad" "I") ∈ lw_all := lw_g (lw_at lw_m28 120 rfl) rfl
theorem q6993 : (Jvm.Cond.fieldLink "WasteHouseModel$RoundColumnsModel" (143 : Nat) "WasteHouseModel$RoundColumnsModel" "foundVehicles" "I") ∈ lw_all := lw_g (lw_at lw_m28 121 rfl) rfl
theorem q6994 : (Jvm.Cond.fieldLink "WasteHouseModel$RoundColumnsModel" (25 : Nat) "WasteHouseModel$RoundColumnsModel" "foundKilograms" "[I") ∈ lw_all := lw_g (lw_at lw_m28 122 rfl) rfl
theorem q6995 : (Jvm.Cond.fieldLink "WasteHouseModel$RoundColumnsModel" (28 : Nat) "WasteHouseModel$RoundColumnsModel" "rows" "[Z") ∈ lw_all := lw_g (lw_at lw_m28 123 rfl) rfl
theorem q6996 : (Jvm.Cond.fieldLink "WasteHouseModel$RoundColumnsModel" (32 : Nat) "WasteHouseModel$RoundColumnsModel" "rounds" "[Z") ∈ lw_all := lw_g (lw_at lw_m28 124 rfl) rfl
theorem q6997 : (Jvm.Cond.fieldLink "WasteHouseModel$RoundColumnsModel" (35 : Nat) "WasteHouseModel$RoundColumnsModel" "costs" "[I") ∈ lw_all := lw_g (lw_at lw_m28 125 rfl) rfl
theorem q6998 : (Jvm.Cond.fieldLink "WasteHouseModel$RoundColumnsModel" (38 : Nat) "WasteHouseModel$RoundColumnsModel" "lists" "[I") ∈ lw_all := lw_g (lw_at lw_m28 126 rfl) rfl
theorem q6999 : (Jvm.Cond.fieldLink "WasteHouseModel$RoundColumnsModel" (41 : Nat) "WasteHouseModel$RoundColumnsModel" "barred" "[Z") ∈ lw_all := lw_g (lw_at lw_m28 127 rfl) rfl
theorem q7000 : (Jvm.Cond.fieldLink "WasteHouseModel$RoundColumnsModel" (72 : Nat) "WasteHouseModel$RoundColumnsModel" "fault" "I") ∈ lw_all := lw_g (lw_at lw_m28 128 rfl) rfl
theorem q7001 : (Jvm.Cond.fieldLink "WasteHouseModel$RoundColumnsModel" (44 : Nat) "WasteHouseModel$RoundColumnsModel" "row" "[I") ∈ lw_all := lw_g (lw_at lw_m28 129 rfl) rfl
theorem q7002 : (Jvm.Cond.fieldLink "WasteHouseModel$RoundColumnsModel" (102 : Nat) "WasteHouseModel$RoundColumnsModel" "length" "I") ∈ lw_all := lw_g (lw_at lw_m28 130 rfl) rfl
theorem q7003 : (Jvm.Cond.fieldLink "WasteHouseModel$RoundColumnsModel" (47 : Nat) "WasteHouseModel$RoundColumnsModel" "newRows" "[Z") ∈ lw_all := lw_g (lw_at lw_m28 131 rfl) rfl
theorem q7004 : (Jvm.Cond.fieldLink "WasteHouseModel$RoundColumnsModel" (50 : Nat) "WasteHouseModel$RoundColumnsModel" "newRounds" "[Z") ∈ lw_all := lw_g (lw_at lw_m28 132 rfl) rfl
theorem q7005 : (Jvm.Cond.fieldLink "WasteHouseModel$RoundColumnsModel" (53 : Nat) "WasteHouseModel$RoundColumnsModel" "newCosts" "[I") ∈ lw_all := lw_g (lw_at lw_m28 133 rfl) rfl
theorem q7006 : (Jvm.Cond.fieldLink "WasteHouseModel$RoundColumnsModel" (56 : Nat) "WasteHouseModel$RoundColumnsModel" "newLists" "[I") ∈ lw_all := lw_g (lw_at lw_m28 134 rfl) rfl
theorem q7007 : (Jvm.Cond.fieldLink "WasteHouseModel$RoundColumnsModel" (59 : Nat) "WasteHouseModel$RoundColumnsModel" "over" "[J") ∈ lw_all := lw_g (lw_at lw_m28 135 rfl) rfl
theorem q7008 : (Jvm.Cond.fieldLink "WasteHouseModel$RoundColumnsModel" (63 : Nat) "WasteHouseModel$RoundColumnsModel" "under" "[J") ∈ lw_all := lw_g (lw_at lw_m28 136 rfl) rfl
theorem q7009 : (Jvm.Cond.fieldLink "WasteHouseModel$RoundColumnsModel" (66 : Nat) "WasteHouseModel$RoundColumnsModel" "based" "[I") ∈ lw_all := lw_g (lw_at lw_m28 137 rfl) rfl
theorem q7010 : (Jvm.Cond.fieldLink "WasteHouseModel$RoundColumnsModel" (69 : Nat) "WasteHouseModel$RoundColumnsModel" "open" "[Z") ∈ lw_all := lw_g (lw_at lw_m28 138 rfl) rfl
theorem q7011 : (Jvm.Cond.lays "WasteHouseModel$RoundColumnsModel" "WasteHouseModel$RoundColumnsModel" "bins" "I") ∈ lw_all := lw_g (lw_at lw_m28 139 rfl) rfl
theorem q7012 : (Jvm.Cond.soleField "WasteHouseModel$RoundColumnsModel" "bins") ∈ lw_all := lw_g (lw_at lw_m28 140 rfl) rfl
theorem q7013 : (Jvm.Cond.laysFinal "WasteHouseModel$RoundColumnsModel" "WasteHouseModel$RoundColumnsModel" "kilograms" "[I") ∈ lw_all := lw_g (lw_at lw_m28 141 rfl) rfl
theorem q7014 : (Jvm.Cond.soleField "WasteHouseModel$RoundColumnsModel" "kilograms") ∈ lw_all := lw_g (lw_at lw_m28 142 rfl) rfl
theorem q7015 : (Jvm.Cond.laysFinal "WasteHouseModel$RoundColumnsModel" "WasteHouseModel$RoundColumnsModel" "seconds" "[I") ∈ lw_all := lw_g (lw_at lw_m28 143 rfl) rfl
theorem q7016 : (Jvm.Cond.soleField "WasteHouseModel$RoundColumnsModel" "seconds") ∈ lw_all := lw_g (lw_at lw_m28 144 rfl) rfl
theorem q7017 : (Jvm.Cond.laysFinal "WasteHouseModel$RoundColumnsModel" "WasteHouseModel$RoundColumnsModel" "waySeconds" "[I") ∈ lw_all := lw_g (lw_at lw_m28 145 rfl) rfl
theorem q7018 : (Jvm.Cond.soleField "WasteHouseModel$RoundColumnsModel" "waySeconds") ∈ lw_all := lw_g (lw_at lw_m28 146 rfl) rfl
theorem q7019 : (Jvm.Cond.laysFinal "WasteHouseModel$RoundColumnsModel" "WasteHouseModel$RoundColumnsModel" "wayCosts" "[I") ∈ lw_all := lw_g (lw_at lw_m28 147 rfl) rfl
theorem q7020 : (Jvm.Cond.soleField "WasteHouseModel$RoundColumnsModel" "wayCosts") ∈ lw_all := lw_g (lw_at lw_m28 148 rfl) rfl
theorem q7021 : (Jvm.Cond.lays "WasteHouseModel$RoundColumnsModel" "WasteHouseModel$RoundColumnsModel" "load" "I") ∈ lw_all := lw_g (lw_at lw_m28 149 rfl) rfl
theorem q7022 : (Jvm.Cond.soleField "WasteHouseModel$RoundColumnsModel" "load") ∈ lw_all := lw_g (lw_at lw_m28 150 rfl) rfl
theorem q7023 : (Jvm.Cond.lays "WasteHouseModel$RoundColumnsModel" "WasteHouseModel$RoundColumnsModel" "time" "I") ∈ lw_all := lw_g (lw_at lw_m28 151 rfl) rfl
theorem q7024 : (Jvm.Cond.soleField "WasteHouseModel$RoundColumnsModel" "time") ∈ lw_all := lw_g (lw_at lw_m28 152 rfl) rfl
theorem q7025 : (Jvm.Cond.lays "WasteHouseModel$RoundColumnsModel" "WasteHouseModel$RoundColumnsModel" "vehicles" "I") ∈ lw_all := lw_g (lw_at lw_m28 153 rfl) rfl
theorem q7026 : (Jvm.Cond.soleField "WasteHouseModel$RoundColumnsModel" "vehicles") ∈ lw_all := lw_g (lw_at lw_m28 154 rfl) rfl
theorem q7027 : (Jvm.Cond.laysFinal "WasteHouseModel$RoundColumnsModel" "WasteHouseModel$RoundColumnsModel" "pairs" "[I") ∈ lw_all := lw_g (lw_at lw_m28 155 rfl) rfl
theorem q7028 : (Jvm.Cond.soleField "WasteHouseModel$RoundColumnsModel" "pairs") ∈ lw_all := lw_g (lw_at lw_m28 156 rfl) rfl
theorem q7029 : (Jvm.Cond.lays "WasteHouseModel$RoundColumnsModel" "WasteHouseModel$RoundColumnsModel" "isFound" "Z") ∈ lw_all := lw_g (lw_at lw_m28 157 rfl) rfl
theorem q7030 : (Jvm.Cond.soleField "WasteHouseModel$RoundColumnsModel" "isFound") ∈ lw_all := lw_g (lw_at lw_m28 158 rfl) rfl
theorem q7031 : (Jvm.Cond.lays "WasteHouseModel$RoundColumnsModel" "WasteHouseModel$RoundColumnsModel" "foundBins" "I") ∈ lw_all := lw_g (lw_at lw_m28 159 rfl) rfl
theorem q7032 : (Jvm.Cond.soleField "WasteHouseModel$RoundColumnsModel" "foundBins") ∈ lw_all := lw_g (lw_at lw_m28 160 rfl) rfl
theorem q7033 : (Jvm.Cond.lays "WasteHouseModel$RoundColumnsModel" "WasteHouseModel$RoundColumnsModel" "foundLoad" "I") ∈ lw_all := lw_g (lw_at lw_m28 161 rfl) rfl
theorem q7034 : (Jvm.Cond.soleField "WasteHouseModel$RoundColumnsModel" "foundLoad") ∈ lw_all := lw_g (lw_at lw_m28 162 rfl) rfl
theorem q7035 : (Jvm.Cond.lays "WasteHouseModel$RoundColumnsModel" "WasteHouseModel$RoundColumnsModel" "foundVehicles" "I") ∈ lw_all := lw_g (lw_at lw_m28 163 rfl) rfl
theorem q7036 : (Jvm.Cond.soleField "WasteHouseModel$RoundColumnsModel" "foundVehicles") ∈ lw_all := lw_g (lw_at lw_m28 164 rfl) rfl
theorem q7037 : (Jvm.Cond.laysFinal "WasteHouseModel$RoundColumnsModel" "WasteHouseModel$RoundColumnsModel" "foundKilograms" "[I") ∈ lw_all := lw_g (lw_at lw_m28 165 rfl) rfl
theorem q7038 : (Jvm.Cond.soleField "WasteHouseModel$RoundColumnsModel" "foundKilograms") ∈ lw_all := lw_g (lw_at lw_m28 166 rfl) rfl
theorem q7039 : (Jvm.Cond.laysFinal "WasteHouseModel$RoundColumnsModel" "WasteHouseModel$RoundColumnsModel" "rows" "[Z") ∈ lw_all := lw_g (lw_at lw_m28 167 rfl) rfl
theorem q7040 : (Jvm.Cond.soleField "WasteHouseModel$RoundColumnsModel" "rows") ∈ lw_all := lw_g (lw_at lw_m28 168 rfl) rfl
theorem q7041 : (Jvm.Cond.laysFinal "WasteHouseModel$RoundColumnsModel" "WasteHouseModel$RoundColumnsModel" "rounds" "[Z") ∈ lw_all := lw_g (lw_at lw_m28 169 rfl) rfl
theorem q7042 : (Jvm.Cond.soleField "WasteHouseModel$RoundColumnsModel" "rounds") ∈ lw_all := lw_g (lw_at lw_m28 170 rfl) rfl
theorem q7043 : (Jvm.Cond.laysFinal "WasteHouseModel$RoundColumnsModel" "WasteHouseModel$RoundColumnsModel" "costs" "[I") ∈ lw_all := lw_g (lw_at lw_m28 171 rfl) rfl
theorem q7044 : (Jvm.Cond.soleField "WasteHouseModel$RoundColumnsModel" "costs") ∈ lw_all := lw_g (lw_at lw_m28 172 rfl) rfl
theorem q7045 : (Jvm.Cond.laysFinal "WasteHouseModel$RoundColumnsModel" "WasteHouseModel$RoundColumnsModel" "lists" "[I") ∈ lw_all := lw_g (lw_at lw_m28 173 rfl) rfl
theorem q7046 : (Jvm.Cond.soleField "WasteHouseModel$RoundColumnsModel" "lists") ∈ lw_all := lw_g (lw_at lw_m28 174 rfl) rfl
theorem q7047 : (Jvm.Cond.laysFinal "WasteHouseModel$RoundColumnsModel" "WasteHouseModel$RoundColumnsModel" "barred" "[Z") ∈ lw_all := lw_g (lw_at lw_m28 175 rfl) rfl
theorem q7048 : (Jvm.Cond.soleField "WasteHouseModel$RoundColumnsModel" "barred") ∈ lw_all := lw_g (lw_at lw_m28 176 rfl) rfl
theorem q7049 : (Jvm.Cond.lays "WasteHouseModel$RoundColumnsModel" "WasteHouseModel$RoundColumnsModel" "fault" "I") ∈ lw_all := lw_g (lw_at lw_m28 177 rfl) rfl
theorem q7050 : (Jvm.Cond.soleField "WasteHouseModel$RoundColumnsModel" "fault") ∈ lw_all := lw_g (lw_at lw_m28 178 rfl) rfl
theorem q7051 : (Jvm.Cond.laysFinal "WasteHouseModel$RoundColumnsModel" "WasteHouseModel$RoundColumnsModel" "row" "[I") ∈ lw_all := lw_g (lw_at lw_m28 179 rfl) rfl
theorem q7052 : (Jvm.Cond.soleField "WasteHouseModel$RoundColumnsModel" "row") ∈ lw_all := lw_g (lw_at lw_m28 180 rfl) rfl
theorem q7053 : (Jvm.Cond.lays "WasteHouseModel$RoundColumnsModel" "WasteHouseModel$RoundColumnsModel" "length" "I") ∈ lw_all := lw_g (lw_at lw_m28 181 rfl) rfl
theorem q7054 : (Jvm.Cond.soleField "WasteHouseModel$RoundColumnsModel" "length") ∈ lw_all := lw_g (lw_at lw_m28 182 rfl) rfl
theorem q7055 : (Jvm.Cond.laysFinal "WasteHouseModel$RoundColumnsModel" "WasteHouseModel$RoundColumnsModel" "newRows" "[Z") ∈ lw_all := lw_g (lw_at lw_m28 183 rfl) rfl
theorem q7056 : (Jvm.Cond.soleField "WasteHouseModel$RoundColumnsModel" "newRows") ∈ lw_all := lw_g (lw_at lw_m28 184 rfl) rfl
theorem q7057 : (Jvm.Cond.laysFinal "WasteHouseModel$RoundColumnsModel" "WasteHouseModel$RoundColumnsModel" "newRounds" "[Z") ∈ lw_all := lw_g (lw_at lw_m28 185 rfl) rfl
theorem q7058 : (Jvm.Cond.soleField "WasteHouseModel$RoundColumnsModel" "newRounds") ∈ lw_all := lw_g (lw_at lw_m28 186 rfl) rfl
theorem q7059 : (Jvm.Cond.laysFinal "WasteHouseModel$RoundColumnsModel" "WasteHouseModel$RoundColumnsModel" "newCosts" "[I") ∈ lw_all := lw_g (lw_at lw_m28 187 rfl) rfl
theorem q7060 : (Jvm.Cond.soleField "WasteHouseModel$RoundColumnsModel" "newCosts") ∈ lw_all := lw_g (lw_at lw_m28 188 rfl) rfl
theorem q7061 : (Jvm.Cond.laysFinal "WasteHouseModel$RoundColumnsModel" "WasteHouseModel$RoundColumnsModel" "newLists" "[I") ∈ lw_all := lw_g (lw_at lw_m28 189 rfl) rfl
theorem q7062 : (Jvm.Cond.soleField "WasteHouseModel$RoundColumnsModel" "newLists") ∈ lw_all := lw_g (lw_at lw_m28 190 rfl) rfl
theorem q7063 : (Jvm.Cond.laysFinal "WasteHouseModel$RoundColumnsModel" "WasteHouseModel$RoundColumnsModel" "over" "[J") ∈ lw_all := lw_g (lw_at lw_m28 191 rfl) rfl
theorem q7064 : (Jvm.Cond.soleField "WasteHouseModel$RoundColumnsModel" "over") ∈ lw_all := lw_g (lw_at lw_m28 192 rfl) rfl
theorem q7065 : (Jvm.Cond.laysFinal "WasteHouseModel$RoundColumnsModel" "WasteHouseModel$RoundColumnsModel" "under" "[J") ∈ lw_all := lw_g (lw_at lw_m28 193 rfl) rfl
theorem q7066 : (Jvm.Cond.soleField "WasteHouseModel$RoundColumnsModel" "under") ∈ lw_all := lw_g (lw_at lw_m28 194 rfl) rfl
theorem q7067 : (Jvm.Cond.laysFinal "WasteHouseModel$RoundColumnsModel" "WasteHouseModel$RoundColumnsModel" "based" "[I") ∈ lw_all := lw_g (lw_at lw_m28 195 rfl) rfl
theorem q7068 : (Jvm.Cond.soleField "WasteHouseModel$RoundColumnsModel" "based") ∈ lw_all := lw_g (lw_at lw_m28 196 rfl) rfl
theorem q7069 : (Jvm.Cond.laysFinal "WasteHouseModel$RoundColumnsModel" "WasteHouseModel$RoundColumnsModel" "open" "[Z") ∈ lw_all := lw_g (lw_at lw_m28 197 rfl) rfl
theorem q7070 : (Jvm.Cond.soleField "WasteHouseModel$RoundColumnsModel" "open") ∈ lw_all := lw_g (lw_at lw_m28 198 rfl) rfl
theorem q7071 : (Jvm.Cond.superclass "WasteHouseModel$RoundColumnsModel" "java/lang/Object") ∈ lw_all := lw_g (lw_at lw_m28 199 rfl) rfl
theorem q7669 : (Jvm.Cond.privateMethod ({ cls := "WasteHouseModel$RoundColumnsModel", name := "columnSet", desc := "(I)I" } : Jvm.MethodName)) ∈ lw_tbl := lw_at lw_m31 77 rfl
theorem q7670 : (Jvm.Cond.instanceMethod ({ cls := "WasteHouseModel$RoundColumnsModel", name := "columnSet", desc := "(I)I" } : Jvm.MethodName)) ∈ lw_all := lw_g (lw_at lw_m31 78 rfl) rfl
theorem q7671 : (Jvm.Cond.code ({ cls := "WasteHouseModel$RoundColumnsModel", name := "columnSet", desc := "(I)I" } : Jvm.MethodName) prog_63_method_34_code (4 : Nat) (Option.some Jvm.ClassFile.FieldType.int)) ∈ lw_all := lw_g (lw_at lw_m31 79 rfl) rfl
theorem q7682 : (Jvm.Cond.privateMethod ({ cls := "WasteHouseModel$RoundColumnsModel", name := "kilogramsOf", desc := "(I)I" } : Jvm.MethodName)) ∈ lw_tbl := lw_at lw_m31 90 rfl
theorem q7683 : (Jvm.Cond.instanceMethod ({ cls := "WasteHouseModel$RoundColumnsModel", name := "kilogramsOf", desc := "(I)I" } : Jvm.MethodName)) ∈ lw_all := lw_g (lw_at lw_m31 91 rfl) rfl
theorem q7684 : (Jvm.Cond.code ({ cls := "WasteHouseModel$RoundColumnsModel", name := "kilogramsOf", desc := "(I)I" } : Jvm.MethodName) prog_63_method_40_code (4 : Nat) (Option.some Jvm.ClassFile.FieldType.int)) ∈ lw_all := lw_g (lw_at lw_m31 92 rfl) rfl
theorem q7685 : (Jvm.Cond.methodLink "WasteHouseModel$RoundColumnsModel" (116 : Nat) ({ cls := "WasteHouseModel$RoundColumnsModel", name := "has", desc := "(II)Z" } : Jvm.MethodName)) ∈ lw_all := lw_g (lw_at lw_m31 93 rfl) rfl
theorem q7686 : (Jvm.Cond.static ({ cls := "WasteHouseModel$RoundColumnsModel", name := "has", desc := "(II)Z" } : Jvm.MethodName)) ∈ lw_all := lw_g (lw_at lw_m31 94 rfl) rfl
theorem q7687 : (Jvm.Cond.code ({ cls := "WasteHouseModel$RoundColumnsModel", name := "has", desc := "(II)Z" } : Jvm.MethodName) prog_63_method_4_code (2 : Nat) (Option.some Jvm.ClassFile.FieldType.boolean)) ∈ lw_all := lw_g (lw_at lw_m31 95 rfl) rfl
theorem q8662 : (Jvm.Cond.instanceMethod ({ cls := "WasteHouseModel$RoundColumnsModel", name := "bin", desc := "(JI)I" } : Jvm.MethodName)) ∈ lw_all := lw_g (lw_at lw_m35 110 rfl) rfl
theorem q8663 : (Jvm.Cond.selects "WasteHouseModel$RoundColumnsModel" ({ cls := "WasteHouseModel$RoundColumnsModel", name := "bin", desc := "(JI)I" } : Jvm.MethodName) ({ cls := "WasteHouseModel$RoundColumnsModel", name := "bin", desc := "(JI)I" } : Jvm.MethodName)) ∈ lw_all := lw_g (lw_at lw_m35 111 rfl) rfl
theorem q8664 : (Jvm.Cond.code ({ cls := "WasteHouseModel$RoundColumnsModel", name := "bin", desc := "(JI)I" } : Jvm.MethodName) prog_63_method_5_code (4 : Nat) (Option.some Jvm.ClassFile.FieldType.int)) ∈ lw_all := lw_g (lw_at lw_m35 112 rfl) rfl
theorem q8665 : (Jvm.Cond.constantLong "WasteHouseModel$RoundColumnsModel" (79 : Nat) (1000 : Int64)) ∈ lw_all := lw_g (lw_at lw_m35 113 rfl) rfl
theorem q8666 : (Jvm.Cond.methodLink "WasteHouseModel$RoundColumnsModel" (81 : Nat) ({ cls := "WasteHouseModel$RoundColumnsModel", name := "isIn", desc := "(JJ)Z" } : Jvm.MethodName)) ∈ lw_all := lw_g (lw_at lw_m35 114 rfl) rfl
theorem q8667 : (Jvm.Cond.static ({ cls := "WasteHouseModel$RoundColumnsModel", name := "isIn", desc := "(JJ)Z" } : Jvm.MethodName)) ∈ lw_all := lw_g (lw_at lw_m35 115 rfl) rfl
theorem q8668 : (Jvm.Cond.code ({ cls := "WasteHouseModel$RoundColumnsModel", name := "isIn", desc := "(JJ)Z" } : Jvm.MethodName) prog_63_method_3_code (4 : Nat) (Option.some Jvm.ClassFile.FieldType.boolean)) ∈ lw_all := lw_g (lw_at lw_m35 116 rfl) rfl
theorem q8671 : (Jvm.Cond.instanceMethod ({ cls := "WasteHouseModel$RoundColumnsModel", name := "way", desc := "(IIIJ)Z" } : Jvm.MethodName)) ∈ lw_all := lw_g (lw_at lw_m35 119 rfl) rfl
theorem q8672 : (Jvm.Cond.selects "WasteHouseModel$RoundColumnsModel" ({ cls := "WasteHouseModel$RoundColumnsModel", name := "way", desc := "(IIIJ)Z" } : Jvm.MethodName) ({ cls := "WasteHouseModel$RoundColumnsModel", name := "way", desc := "(IIIJ)Z" } : Jvm.MethodName)) ∈ lw_all := lw_g (lw_at lw_m35 120 rfl) rfl
theorem q8673 : (Jvm.Cond.code ({ cls := "WasteHouseModel$RoundColumnsModel", name := "way", desc := "(IIIJ)Z" } : Jvm.MethodName) prog_63_method_6_code (6 : Nat) (Option.some Jvm.ClassFile.FieldType.boolean)) ∈ lw_all := lw_g (lw_at lw_m35 121 rfl) rfl
theorem q8674 : (Jvm.Cond.constantLong "WasteHouseModel$RoundColumnsModel" (85 : Nat) (2000 : Int64)) ∈ lw_all := lw_g (lw_at lw_m35 122 rfl) rfl
theorem q8678 : (Jvm.Cond.instanceMethod ({ cls := "WasteHouseModel$RoundColumnsModel", name := "vehicle", desc := "(JII)Z" } : Jvm.MethodName)) ∈ lw_all := lw_g (lw_at lw_m35 126 rfl) rfl
theorem q8679 : (Jvm.Cond.selects "WasteHouseModel$RoundColumnsModel" ({ cls := "WasteHouseModel$RoundColumnsModel", name := "vehicle", desc := "(JII)Z" } : Jvm.MethodName) ({ cls := "WasteHouseModel$RoundColumnsModel", name := "vehicle", desc := "(JII)Z" } : Jvm.MethodName)) ∈ lw_all := lw_g (lw_at lw_m35 127 rfl) rfl
theorem q8680 : (Jvm.Cond.code ({ cls := "WasteHouseModel$RoundColumnsModel", name := "vehicle", desc := "(JII)Z" } : Jvm.MethodName) prog_63_method_7_code (5 : Nat) (Option.some Jvm.ClassFile.FieldType.boolean)) ∈ lw_all := lw_g (lw_at lw_m35 128 rfl) rfl
theorem q8681 : (Jvm.Cond.constantLong "WasteHouseModel$RoundColumnsModel" (87 : Nat) (6000 : Int64)) ∈ lw_all := lw_g (lw_at lw_m35 129 rfl) rfl
theorem q8682 : (Jvm.Cond.constantLong "WasteHouseModel$RoundColumnsModel" (89 : Nat) (20000 : Int64)) ∈ lw_all := lw_g (lw_at lw_m35 130 rfl) rfl
theorem q8683 : (Jvm.Cond.constantLong "WasteHouseModel$RoundColumnsModel" (91 : Nat) (6 : Int64)) ∈ lw_all := lw_g (lw_at lw_m35 131 rfl) rfl
theorem q8687 : (Jvm.Cond.instanceMethod ({ cls := "WasteHouseModel$RoundColumnsModel", name := "branch", desc := "(IIZ)Z" } : Jvm.MethodName)) ∈ lw_all := lw_g (lw_at lw_m35 135 rfl) rfl
theorem q8688 : (Jvm.Cond.selects "WasteHouseModel$RoundColumnsModel" ({ cls := "WasteHouseModel$RoundColumnsModel", name := "branch", desc := "(IIZ)Z" } : Jvm.MethodName) ({ cls := "WasteHouseModel$RoundColumnsModel", name := "branch", desc := "(IIZ)Z" } : Jvm.MethodName)) ∈ lw_all := lw_g (lw_at lw_m35 136 rfl) rfl
theorem q8689 : (Jvm.Cond.code ({ cls := "WasteHouseModel$RoundColumnsModel", name := "branch", desc := "(IIZ)Z" } : Jvm.MethodName) prog_63_method_8_code (4 : Nat) (Option.some Jvm.ClassFile.FieldType.boolean)) ∈ lw_all := lw_g (lw_at lw_m35 137 rfl) rfl
theorem q8691 : (Jvm.Cond.instanceMethod ({ cls := "WasteHouseModel$RoundColumnsModel", name := "clear", desc := "()V" } : Jvm.MethodName)) ∈ lw_all := lw_g (lw_at lw_m35 139 rfl) rfl
theorem q8692 : (Jvm.Cond.selects "WasteHouseModel$RoundColumnsModel" ({ cls := "WasteHouseModel$RoundColumnsModel", name := "clear", desc := "()V" } : Jvm.MethodName) ({ cls := "WasteHouseModel$RoundColumnsModel", name := "clear", desc := "()V" } : Jvm.MethodName)) ∈ lw_all := lw_g (lw_at lw_m35 140 rfl) rfl
theorem q8693 : (Jvm.Cond.code ({ cls := "WasteHouseModel$RoundColumnsModel", name := "clear", desc := "()V" } : Jvm.MethodName) prog_63_method_9_code (2 : Nat) (Option.none : Option Jvm.ClassFile.FieldType)) ∈ lw_all := lw_g (lw_at lw_m35 141 rfl) rfl
theorem q8695 : (Jvm.Cond.instanceMethod ({ cls := "WasteHouseModel$RoundColumnsModel", name := "run", desc := "(I)I" } : Jvm.MethodName)) ∈ lw_all := lw_g (lw_at lw_m35 143 rfl) rfl
theorem q8696 : (Jvm.Cond.selects "WasteHouseModel$RoundColumnsModel" ({ cls := "WasteHouseModel$RoundColumnsModel", name := "run", desc := "(I)I" } : Jvm.MethodName) ({ cls := "WasteHouseModel$RoundColumnsModel", name := "run", desc := "(I)I" } : Jvm.MethodName)) ∈ lw_all := lw_g (lw_at lw_m35 144 rfl) rfl
theorem q8697 : (Jvm.Cond.code ({ cls := "WasteHouseModel$RoundColumnsModel", name := "run", desc := "(I)I" } : Jvm.MethodName) prog_63_method_18_code (4 : Nat) (Option.some Jvm.ClassFile.FieldType.int)) ∈ lw_all := lw_g (lw_at lw_m35 145 rfl) rfl
theorem q8698 : (Jvm.Cond.methodLink "WasteHouseModel$RoundColumnsModel" (130 : Nat) ({ cls := "WasteHouseModel$RoundColumnsModel", name := "search", desc := "()I" } : Jvm.MethodName)) ∈ lw_all := lw_g (lw_at lw_m35 146 rfl) rfl
theorem q8699 : (Jvm.Cond.privateMethod ({ cls := "WasteHouseModel$RoundColumnsModel", name := "search", desc := "()I" } : Jvm.MethodName)) ∈ lw_tbl := lw_at lw_m35 147 rfl
theorem q8700 : (Jvm.Cond.instanceMethod ({ cls := "WasteHouseModel$RoundColumnsModel", name := "search", desc := "()I" } : Jvm.MethodName)) ∈ lw_all := lw_g (lw_at lw_m35 148 rfl) rfl
theorem q8701 : (Jvm.Cond.code ({ cls := "WasteHouseModel$RoundColumnsModel", name := "search", desc := "()I" } : Jvm.MethodName) prog_63_method_16_code (7 : Nat) (Option.some Jvm.ClassFile.FieldType.int)) ∈ lw_all := lw_g (lw_at lw_m35 149 rfl) rfl
theorem q8702 : (Jvm.Cond.methodLink "WasteHouseModel$RoundColumnsModel" (120 : Nat) ({ cls := "WasteHouseModel$RoundColumnsModel", name := "next", desc := "(Z)Z" } : Jvm.MethodName)) ∈ lw_all := lw_g (lw_at lw_m35 150 rfl) rfl
theorem q8703 : (Jvm.Cond.privateMethod ({ cls := "WasteHouseModel$RoundColumnsModel", name := "next", desc := "(Z)Z" } : Jvm.MethodName)) ∈ lw_tbl := lw_at lw_m35 151 rfl
theorem q8704 : (Jvm.Cond.instanceMethod ({ cls := "WasteHouseModel$RoundColumnsModel", name := "next", desc := "(Z)Z" } : Jvm.MethodName)) ∈ lw_all := lw_g (lw_at lw_m35 152 rfl) rfl
theorem q8705 : (Jvm.Cond.code ({ cls := "WasteHouseModel$RoundColumnsModel", name := "next", desc := "(Z)Z" } : Jvm.MethodName) prog_63_method_15_code (5 : Nat) (Option.some Jvm.ClassFile.FieldType.boolean)) ∈ lw_all := lw_g (lw_at lw_m35 153 rfl) rfl
theorem q8706 : (Jvm.Cond.methodLink "WasteHouseModel$RoundColumnsModel" (113 : Nat) ({ cls := "WasteHouseModel$RoundColumnsModel", name := "setOf", desc := "()I" } : Jvm.MethodName)) ∈ lw_all := lw_g (lw_at lw_m35 154 rfl) rfl
theorem q8707 : (Jvm.Cond.privateMethod ({ cls := "WasteHouseModel$RoundColumnsModel", name := "setOf", desc := "()I" } : Jvm.MethodName)) ∈ lw_tbl := lw_at lw_m35 155 rfl
theorem q8708 : (Jvm.Cond.instanceMethod ({ cls := "WasteHouseModel$RoundColumnsModel", name := "setOf", desc := "()I" } : Jvm.MethodName)) ∈ lw_all := lw_g (lw_at lw_m35 156 rfl) rfl
theorem q8709 : (Jvm.Cond.code ({ cls := "WasteHouseModel$RoundColumnsModel", name := "setOf", desc := "()I" } : Jvm.MethodName) prog_63_method_10_code (3 : Nat) (Option.some Jvm.ClassFile.FieldType.int)) ∈ lw_all := lw_g (lw_at lw_m35 157 rfl) rfl
theorem q8710 : (Jvm.Cond.methodLink "WasteHouseModel$RoundColumnsModel" (109 : Nat) ({ cls := "WasteHouseModel$RoundColumnsModel", name := "isRow", desc := "()Z" } : Jvm.MethodName)) ∈ lw_all := lw_g (lw_at lw_m35 158 rfl) rfl
theorem q8711 : (Jvm.Cond.privateMethod ({ cls := "WasteHouseModel$RoundColumnsModel", name := "isRow", desc := "()Z" } : Jvm.MethodName)) ∈ lw_tbl := lw_at lw_m35 159 rfl
theorem q8712 : (Jvm.Cond.instanceMethod ({ cls := "WasteHouseModel$RoundColumnsModel", name := "isRow", desc := "()Z" } : Jvm.MethodName)) ∈ lw_all := lw_g (lw_at lw_m35 160 rfl) rfl
theorem q8713 : (Jvm.Cond.code ({ cls := "WasteHouseModel$RoundColumnsModel", name := "isRow", desc := "()Z" } : Jvm.MethodName) prog_63_method_12_code (3 : Nat) (Option.some Jvm.ClassFile.FieldType.boolean)) ∈ lw_all := lw_g (lw_at lw_m35 161 rfl) rfl
theorem q8714 : (Jvm.Cond.methodLink "WasteHouseModel$RoundColumnsModel" (105 : Nat) ({ cls := "WasteHouseModel$RoundColumnsModel", name := "secondsOf", desc := "()I" } : Jvm.MethodName)) ∈ lw_all := lw_g (lw_at lw_m35 162 rfl) rfl
theorem q8715 : (Jvm.Cond.privateMethod ({ cls := "WasteHouseModel$RoundColumnsModel", name := "secondsOf", desc := "()I" } : Jvm.MethodName)) ∈ lw_tbl := lw_at lw_m35 163 rfl
theorem q8716 : (Jvm.Cond.instanceMethod ({ cls := "WasteHouseModel$RoundColumnsModel", name := "secondsOf", desc := "()I" } : Jvm.MethodName)) ∈ lw_all := lw_g (lw_at lw_m35 164 rfl) rfl
theorem q8717 : (Jvm.Cond.code ({ cls := "WasteHouseModel$RoundColumnsModel", name := "secondsOf", desc := "()I" } : Jvm.MethodName) prog_63_method_11_code (4 : Nat) (Option.some Jvm.ClassFile.FieldType.int)) ∈ lw_all := lw_g (lw_at lw_m35 165 rfl) rfl
theorem q8718 : (Jvm.Cond.methodLink "WasteHouseModel$RoundColumnsModel" (124 : Nat) ({ cls := "WasteHouseModel$RoundColumnsModel", name := "isRound", desc := "()Z" } : Jvm.MethodName)) ∈ lw_all := lw_g (lw_at lw_m35 166 rfl) rfl
theorem q8719 : (Jvm.Cond.privateMethod ({ cls := "WasteHouseModel$RoundColumnsModel", name := "isRound", desc := "()Z" } : Jvm.MethodName)) ∈ lw_tbl := lw_at lw_m35 167 rfl
theorem q8720 : (Jvm.Cond.instanceMethod ({ cls := "WasteHouseModel$RoundColumnsModel", name := "isRound", desc := "()Z" } : Jvm.MethodName)) ∈ lw_all := lw_g (lw_at lw_m35 168 rfl) rfl
theorem q8721 : (Jvm.Cond.code ({ cls := "WasteHouseModel$RoundColumnsModel", name := "isRound", desc := "()Z" } : Jvm.MethodName) prog_63_method_13_code (2 : Nat) (Option.some Jvm.ClassFile.FieldType.boolean)) ∈ lw_all := lw_g (lw_at lw_m35 169 rfl) rfl
theorem q8722 : (Jvm.Cond.methodLink "WasteHouseModel$RoundColumnsModel" (127 : Nat) ({ cls := "WasteHouseModel$RoundColumnsModel", name := "costOf", desc := "()I" } : Jvm.MethodName)) ∈ lw_all := lw_g (lw_at lw_m35 170 rfl) rfl
theorem q8723 : (Jvm.Cond.privateMethod ({ cls := "WasteHouseModel$RoundColumnsModel", name := "costOf", desc := "()I" } : Jvm.MethodName)) ∈ lw_tbl := lw_at lw_m35 171 rfl
theorem q8724 : (Jvm.Cond.instanceMethod ({ cls := "WasteHouseModel$RoundColumnsModel", name := "costOf", desc := "()I" } : Jvm.MethodName)) ∈ lw_all := lw_g (lw_at lw_m35 172 rfl) rfl
theorem q8725 : (Jvm.Cond.code ({ cls := "WasteHouseModel$RoundColumnsModel", name := "costOf", desc := "()I" } : Jvm.MethodName) prog_63_method_14_code (3 : Nat) (Option.some Jvm.ClassFile.FieldType.int)) ∈ lw_all := lw_g (lw_at lw_m35 173 rfl) rfl
theorem q8726 : (Jvm.Cond.methodLink "WasteHouseModel$RoundColumnsModel" (146 : Nat) ({ cls := "WasteHouseModel$RoundColumnsModel", name := "isBarred", desc := "(I)Z" } : Jvm.MethodName)) ∈ lw_all := lw_g (lw_at lw_m35 174 rfl) rfl
theorem q8727 : (Jvm.Cond.privateMethod ({ cls := "WasteHouseModel$RoundColumnsModel", name := "isBarred", desc := "(I)Z" } : Jvm.MethodName)) ∈ lw_tbl := lw_at lw_m35 175 rfl
theorem q8728 : (Jvm.Cond.instanceMethod ({ cls := "WasteHouseModel$RoundColumnsModel", name := "isBarred", desc := "(I)Z" } : Jvm.MethodName)) ∈ lw_all := lw_g (lw_at lw_m35 176 rfl) rfl
theorem q8729 : (Jvm.Cond.code ({ cls := "WasteHouseModel$RoundColumnsModel", name := "isBarred", desc := "(I)Z" } : Jvm.MethodName) prog_63_method_17_code (6 : Nat) (Option.some Jvm.ClassFile.FieldType.boolean)) ∈ lw_all := lw_g (lw_at lw_m35 177 rfl) rfl
theorem q8730 : (Jvm.Cond.methodLink "WasteHouseModel$RoundColumnsModel" (150 : Nat) ({ cls := "WasteHouseModel$RoundColumnsModel", name := "all", desc := "()I" } : Jvm.MethodName)) ∈ lw_all := lw_g (lw_at lw_m35 178 rfl) rfl
theorem q8731 : (Jvm.Cond.privateMethod ({ cls := "WasteHouseModel$RoundColumnsModel", name := "all", desc := "()I" } : Jvm.MethodName)) ∈ lw_tbl := lw_at lw_m35 179 rfl
theorem q8732 : (Jvm.Cond.instanceMethod ({ cls := "WasteHouseModel$RoundColumnsModel", name := "all", desc := "()I" } : Jvm.MethodName)) ∈ lw_all := lw_g (lw_at lw_m35 180 rfl) rfl
theorem q8733 : (Jvm.Cond.code ({ cls := "WasteHouseModel$RoundColumnsModel", name := "all", desc := "()I" } : Jvm.MethodName) prog_63_method_19_code (1 : Nat) (Option.some Jvm.ClassFile.FieldType.int)) ∈ lw_all := lw_g (lw_at lw_m35 181 rfl) rfl
theorem q8734 : (Jvm.Cond.methodLink "WasteHouseModel$RoundColumnsModel" (153 : Nat) ({ cls := "WasteHouseModel$RoundColumnsModel", name := "solve", desc := "(II)Z" } : Jvm.MethodName)) ∈ lw_all := lw_g (lw_at lw_m35 182 rfl) rfl
theorem q8735 : (Jvm.Cond.privateMethod ({ cls := "WasteHouseModel$RoundColumnsModel", name := "solve", desc := "(II)Z" } : Jvm.MethodName)) ∈ lw_tbl := lw_at lw_m35 183 rfl
theorem q8736 : (Jvm.Cond.instanceMethod ({ cls := "WasteHouseModel$RoundColumnsModel", name := "solve", desc := "(II)Z" } : Jvm.MethodName)) ∈ lw_all := lw_g (lw_at lw_m35 184 rfl) rfl
theorem q8737 : (Jvm.Cond.code ({ cls := "WasteHouseModel$RoundColumnsModel", name := "solve", desc := "(II)Z" } : Jvm.MethodName) prog_63_method_30_code (4 : Nat) (Option.some Jvm.ClassFile.FieldType.boolean)) ∈ lw_all := lw_g (lw_at lw_m35 185 rfl) rfl
theorem q8738 : (Jvm.Cond.methodLink "WasteHouseModel$RoundColumnsModel" (181 : Nat) ({ cls := "WasteHouseModel$RoundColumnsModel", name := "layOut", desc := "(I)V" } : Jvm.MethodName)) ∈ lw_all := lw_g (lw_at lw_m35 186 rfl) rfl
theorem q8739 : (Jvm.Cond.privateMethod ({ cls := "WasteHouseModel$RoundColumnsModel", name := "layOut", desc := "(I)V" } : Jvm.MethodName)) ∈ lw_tbl := lw_at lw_m35 187 rfl
theorem q8740 : (Jvm.Cond.instanceMethod ({ cls := "WasteHouseModel$RoundColumnsModel", name := "layOut", desc := "(I)V" } : Jvm.MethodName)) ∈ lw_all := lw_g (lw_at lw_m35 188 rfl) rfl
theorem q8741 : (Jvm.Cond.code ({ cls := "WasteHouseModel$RoundColumnsModel", name := "layOut", desc := "(I)V" } : Jvm.MethodName) prog_63_method_27_code (7 : Nat) (Option.none : Option Jvm.ClassFile.FieldType)) ∈ lw_all := lw_g (lw_at lw_m35 189 rfl) rfl
theorem q8742 : (Jvm.Cond.methodLink "WasteHouseModel$RoundColumnsModel" (160 : Nat) ({ cls := "WasteHouseModel$RoundColumnsModel", name := "put", desc := "(IJJ)V" } : Jvm.MethodName)) ∈ lw_all := lw_g (lw_at lw_m35 190 rfl) rfl
theorem q8743 : (Jvm.Cond.privateMethod ({ cls := "WasteHouseModel$RoundColumnsModel", name := "put", desc := "(IJJ)V" } : Jvm.MethodName)) ∈ lw_tbl := lw_at lw_m35 191 rfl
theorem q8744 : (Jvm.Cond.instanceMethod ({ cls := "WasteHouseModel$RoundColumnsModel", name := "put", desc := "(IJJ)V" } : Jvm.MethodName)) ∈ lw_all := lw_g (lw_at lw_m35 192 rfl) rfl
theorem q8745 : (Jvm.Cond.code ({ cls := "WasteHouseModel$RoundColumnsModel", name := "put", desc := "(IJJ)V" } : Jvm.MethodName) prog_63_method_21_code (8 : Nat) (Option.none : Option Jvm.ClassFile.FieldType)) ∈ lw_all := lw_g (lw_at lw_m35 193 rfl) rfl
theorem q8746 : (Jvm.Cond.methodLink "WasteHouseModel$RoundColumnsModel" (156 : Nat) ({ cls := "WasteHouseModel$RoundColumnsModel", name := "common", desc := "(JJ)J" } : Jvm.MethodName)) ∈ lw_all := lw_g (lw_at lw_m35 194 rfl) rfl
theorem q8747 : (Jvm.Cond.static ({ cls := "WasteHouseModel$RoundColumnsModel", name := "common", desc := "(JJ)J" } : Jvm.MethodName)) ∈ lw_all := lw_g (lw_at lw_m35 195 rfl) rfl
theorem q8748 : (Jvm.Cond.code ({ cls := "WasteHouseModel$RoundColumnsModel", name := "common", desc := "(JJ)J" } : Jvm.MethodName) prog_63_method_20_code (10 : Nat) (Option.some Jvm.ClassFile.FieldType.long)) ∈ lw_all := lw_g (lw_at lw_m35 196 rfl) rfl
theorem q8749 : (Jvm.Cond.methodLink "WasteHouseModel$RoundColumnsModel" (185 : Nat) ({ cls := "WasteHouseModel$RoundColumnsModel", name := "settle", desc := "()V" } : Jvm.MethodName)) ∈ lw_all := lw_g (lw_at lw_m35 197 rfl) rfl
theorem q8750 : (Jvm.Cond.privateMethod ({ cls := "WasteHouseModel$RoundColumnsModel", name := "settle", desc := "()V" } : Jvm.MethodName)) ∈ lw_tbl := lw_at lw_m35 198 rfl
theorem q8751 : (Jvm.Cond.instanceMethod ({ cls := "WasteHouseModel$RoundColumnsModel", name := "settle", desc := "()V" } : Jvm.MethodName)) ∈ lw_all := lw_g (lw_at lw_m35 199 rfl) rfl
theorem q8752 : (Jvm.Cond.code ({ cls := "WasteHouseModel$RoundColumnsModel", name := "settle", desc := "()V" } : Jvm.MethodName) prog_63_method_26_code (2 : Nat) (Option.none : Option Jvm.ClassFile.FieldType)) ∈ lw_all := lw_g (lw_at lw_m35 200 rfl) rfl
theorem q8753 : (Jvm.Cond.methodLink "WasteHouseModel$RoundColumnsModel" (168 : Nat) ({ cls := "WasteHouseModel$RoundColumnsModel", name := "coming", desc := "()I" } : Jvm.MethodName)) ∈ lw_all := lw_g (lw_at lw_m35 201 rfl) rfl
theorem q8754 : (Jvm.Cond.privateMethod ({ cls := "WasteHouseModel$RoundColumnsModel", name := "coming", desc := "()I" } : Jvm.MethodName)) ∈ lw_tbl := lw_at lw_m35 202 rfl
theorem q8755 : (Jvm.Cond.instanceMethod ({ cls := "WasteHouseModel$RoundColumnsModel", name := "coming", desc := "()I" } : Jvm.MethodName)) ∈ lw_all := lw_g (lw_at lw_m35 203 rfl) rfl
theorem q8756 : (Jvm.Cond.code ({ cls := "WasteHouseModel$RoundColumnsModel", name := "coming", desc := "()I" } : Jvm.MethodName) prog_63_method_24_code (2 : Nat) (Option.some Jvm.ClassFile.FieldType.int)) ∈ lw_all := lw_g (lw_at lw_m35 204 rfl) rfl
theorem q8757 : (Jvm.Cond.methodLink "WasteHouseModel$RoundColumnsModel" (171 : Nat) ({ cls := "WasteHouseModel$RoundColumnsModel", name := "leaving", desc := "(I)I" } : Jvm.MethodName)) ∈ lw_all := lw_g (lw_at lw_m35 205 rfl) rfl
theorem q8758 : (Jvm.Cond.privateMethod ({ cls := "WasteHouseModel$RoundColumnsModel", name := "leaving", desc := "(I)I" } : Jvm.MethodName)) ∈ lw_tbl := lw_at lw_m35 206 rfl
theorem q8759 : (Jvm.Cond.instanceMethod ({ cls := "WasteHouseModel$RoundColumnsModel", name := "leaving", desc := "(I)I" } : Jvm.MethodName)) ∈ lw_all := lw_g (lw_at lw_m35 207 rfl) rfl
theorem q8760 : (Jvm.Cond.code ({ cls := "WasteHouseModel$RoundColumnsModel", name := "leaving", desc := "(I)I" } : Jvm.MethodName) prog_63_method_25_code (14 : Nat) (Option.some Jvm.ClassFile.FieldType.int)) ∈ lw_all := lw_g (lw_at lw_m35 208 rfl) rfl
theorem q8761 : (Jvm.Cond.methodLink "WasteHouseModel$RoundColumnsModel" (175 : Nat) ({ cls := "WasteHouseModel$RoundColumnsModel", name := "turn", desc := "(II)V" } : Jvm.MethodName)) ∈ lw_all := lw_g (lw_at lw_m35 209 rfl) rfl
theorem q8762 : (Jvm.Cond.privateMethod ({ cls := "WasteHouseModel$RoundColumnsModel", name := "turn", desc := "(II)V" } : Jvm.MethodName)) ∈ lw_tbl := lw_at lw_m35 210 rfl
theorem q8763 : (Jvm.Cond.instanceMethod ({ cls := "WasteHouseModel$RoundColumnsModel", name := "turn", desc := "(II)V" } : Jvm.MethodName)) ∈ lw_all := lw_g (lw_at lw_m35 211 rfl) rfl
theorem q8764 : (Jvm.Cond.code ({ cls := "WasteHouseModel$RoundColumnsModel", name := "turn", desc := "(II)V" } : Jvm.MethodName) prog_63_method_23_code (11 : Nat) (Option.none : Option Jvm.ClassFile.FieldType)) ∈ lw_all := lw_g (lw_at lw_m35 212 rfl) rfl
theorem q8765 : (Jvm.Cond.methodLink "WasteHouseModel$RoundColumnsModel" (164 : Nat) ({ cls := "WasteHouseModel$RoundColumnsModel", name := "lessen", desc := "(III)V" } : Jvm.MethodName)) ∈ lw_all := lw_g (lw_at lw_m35 213 rfl) rfl
theorem q8766 : (Jvm.Cond.privateMethod ({ cls := "WasteHouseModel$RoundColumnsModel", name := "lessen", desc := "(III)V" } : Jvm.MethodName)) ∈ lw_tbl := lw_at lw_m35 214 rfl
theorem q8767 : (Jvm.Cond.instanceMethod ({ cls := "WasteHouseModel$RoundColumnsModel", name := "lessen", desc := "(III)V" } : Jvm.MethodName)) ∈ lw_all := lw_g (lw_at lw_m35 215 rfl) rfl
theorem q8768 : (Jvm.Cond.code ({ cls := "WasteHouseModel$RoundColumnsModel", name := "lessen", desc := "(III)V" } : Jvm.MethodName) prog_63_method_22_code (12 : Nat) (Option.none : Option Jvm.ClassFile.FieldType)) ∈ lw_all := lw_g (lw_at lw_m35 216 rfl) rfl
theorem q8769 : (Jvm.Cond.methodLink "WasteHouseModel$RoundColumnsModel" (188 : Nat) ({ cls := "WasteHouseModel$RoundColumnsModel", name := "clean", desc := "()V" } : Jvm.MethodName)) ∈ lw_all := lw_g (lw_at lw_m35 217 rfl) rfl
theorem q8770 : (Jvm.Cond.privateMethod ({ cls := "WasteHouseModel$RoundColumnsModel", name := "clean", desc := "()V" } : Jvm.MethodName)) ∈ lw_tbl := lw_at lw_m35 218 rfl
theorem q8771 : (Jvm.Cond.instanceMethod ({ cls := "WasteHouseModel$RoundColumnsModel", name := "clean", desc := "()V" } : Jvm.MethodName)) ∈ lw_all := lw_g (lw_at lw_m35 219 rfl) rfl
theorem q8772 : (Jvm.Cond.code ({ cls := "WasteHouseModel$RoundColumnsModel", name := "clean", desc := "()V" } : Jvm.MethodName) prog_63_method_29_code (3 : Nat) (Option.none : Option Jvm.ClassFile.FieldType)) ∈ lw_all := lw_g (lw_at lw_m35 220 rfl) rfl
theorem q8773 : (Jvm.Cond.methodLink "WasteHouseModel$RoundColumnsModel" (191 : Nat) ({ cls := "WasteHouseModel$RoundColumnsModel", name := "aim", desc := "(I)V" } : Jvm.MethodName)) ∈ lw_all := lw_g (lw_at lw_m35 221 rfl) rfl
theorem q8774 : (Jvm.Cond.privateMethod ({ cls := "WasteHouseModel$RoundColumnsModel", name := "aim", desc := "(I)V" } : Jvm.MethodName)) ∈ lw_tbl := lw_at lw_m35 222 rfl
theorem q8775 : (Jvm.Cond.instanceMethod ({ cls := "WasteHouseModel$RoundColumnsModel", name := "aim", desc := "(I)V" } : Jvm.MethodName)) ∈ lw_all := lw_g (lw_at lw_m35 223 rfl) rfl
theorem q8776 : (Jvm.Cond.code ({ cls := "WasteHouseModel$RoundColumnsModel", name := "aim", desc := "(I)V" } : Jvm.MethodName) prog_63_method_28_code (9 : Nat) (Option.none : Option Jvm.ClassFile.FieldType)) ∈ lw_all := lw_g (lw_at lw_m35 224 rfl) rfl
theorem q8777 : (Jvm.Cond.constantLong "WasteHouseModel$RoundColumnsModel" (179 : Nat) (-1 : Int64)) ∈ lw_all := lw_g (lw_at lw_m35 225 rfl) rfl
theorem q8780 : (Jvm.Cond.instanceMethod ({ cls := "WasteHouseModel$RoundColumnsModel", name := "steps", desc := "()I" } : Jvm.MethodName)) ∈ lw_all := lw_g (lw_at lw_m35 228 rfl) rfl
theorem q8781 : (Jvm.Cond.selects "WasteHouseModel$RoundColumnsModel" ({ cls := "WasteHouseModel$RoundColumnsModel", name := "steps", desc := "()I" } : Jvm.MethodName) ({ cls := "WasteHouseModel$RoundColumnsModel", name := "steps", desc := "()I" } : Jvm.MethodName)) ∈ lw_all := lw_g (lw_at lw_m35 229 rfl) rfl
theorem q8782 : (Jvm.Cond.code ({ cls := "WasteHouseModel$RoundColumnsModel", name := "steps", desc := "()I" } : Jvm.MethodName) prog_63_method_32_code (3 : Nat) (Option.some Jvm.ClassFile.FieldType.int)) ∈ lw_all := lw_g (lw_at lw_m35 230 rfl) rfl
theorem q8785 : (Jvm.Cond.instanceMethod ({ cls := "WasteHouseModel$RoundColumnsModel", name := "columns", desc := "()I" } : Jvm.MethodName)) ∈ lw_all := lw_g (lw_at lw_m35 233 rfl) rfl
theorem q8786 : (Jvm.Cond.selects "WasteHouseModel$RoundColumnsModel" ({ cls := "WasteHouseModel$RoundColumnsModel", name := "columns", desc := "()I" } : Jvm.MethodName) ({ cls := "WasteHouseModel$RoundColumnsModel", name := "columns", desc := "()I" } : Jvm.MethodName)) ∈ lw_all := lw_g (lw_at lw_m35 234 rfl) rfl
theorem q8787 : (Jvm.Cond.code ({ cls := "WasteHouseModel$RoundColumnsModel", name := "columns", desc := "()I" } : Jvm.MethodName) prog_63_method_33_code (3 : Nat) (Option.some Jvm.ClassFile.FieldType.int)) ∈ lw_all := lw_g (lw_at lw_m35 235 rfl) rfl
theorem q8790 : (Jvm.Cond.instanceMethod ({ cls := "WasteHouseModel$RoundColumnsModel", name := "column", desc := "(II)I" } : Jvm.MethodName)) ∈ lw_all := lw_g (lw_at lw_m35 238 rfl) rfl
theorem q8791 : (Jvm.Cond.selects "WasteHouseModel$RoundColumnsModel" ({ cls := "WasteHouseModel$RoundColumnsModel", name := "column", desc := "(II)I" } : Jvm.MethodName) ({ cls := "WasteHouseModel$RoundColumnsModel", name := "column", desc := "(II)I" } : Jvm.MethodName)) ∈ lw_all := lw_g (lw_at lw_m35 239 rfl) rfl
theorem q8792 : (Jvm.Cond.code ({ cls := "WasteHouseModel$RoundColumnsModel", name := "column", desc := "(II)I" } : Jvm.MethodName) prog_63_method_35_code (4 : Nat) (Option.some Jvm.ClassFile.FieldType.int)) ∈ lw_all := lw_g (lw_at lw_m36 0 rfl) rfl
theorem q8793 : (Jvm.Cond.methodLink "WasteHouseModel$RoundColumnsModel" (194 : Nat) ({ cls := "WasteHouseModel$RoundColumnsModel", name := "columnSet", desc := "(I)I" } : Jvm.MethodName)) ∈ lw_all := lw_g (lw_at lw_m36 1 rfl) rfl
theorem q8796 : (Jvm.Cond.instanceMethod ({ cls := "WasteHouseModel$RoundColumnsModel", name := "bound", desc := "(I)J" } : Jvm.MethodName)) ∈ lw_all := lw_g (lw_at lw_m36 4 rfl) rfl
theorem q8797 : (Jvm.Cond.selects "WasteHouseModel$RoundColumnsModel" ({ cls := "WasteHouseModel$RoundColumnsModel", name := "bound", desc := "(I)J" } : Jvm.MethodName) ({ cls := "WasteHouseModel$RoundColumnsModel", name := "bound", desc := "(I)J" } : Jvm.MethodName)) ∈ lw_all := lw_g (lw_at lw_m36 5 rfl) rfl
theorem q8798 : (Jvm.Cond.code ({ cls := "WasteHouseModel$RoundColumnsModel", name := "bound", desc := "(I)J" } : Jvm.MethodName) prog_63_method_36_code (2 : Nat) (Option.some Jvm.ClassFile.FieldType.long)) ∈ lw_all := lw_g (lw_at lw_m36 6 rfl) rfl
theorem q8799 : (Jvm.Cond.methodLink "WasteHouseModel$RoundColumnsModel" (197 : Nat) ({ cls := "WasteHouseModel$RoundColumnsModel", name := "goal", desc := "(I)J" } : Jvm.MethodName)) ∈ lw_all := lw_g (lw_at lw_m36 7 rfl) rfl
theorem q8800 : (Jvm.Cond.privateMethod ({ cls := "WasteHouseModel$RoundColumnsModel", name := "goal", desc := "(I)J" } : Jvm.MethodName)) ∈ lw_tbl := lw_at lw_m36 8 rfl
theorem q8801 : (Jvm.Cond.instanceMethod ({ cls := "WasteHouseModel$RoundColumnsModel", name := "goal", desc := "(I)J" } : Jvm.MethodName)) ∈ lw_all := lw_g (lw_at lw_m36 9 rfl) rfl
theorem q8802 : (Jvm.Cond.code ({ cls := "WasteHouseModel$RoundColumnsModel", name := "goal", desc := "(I)J" } : Jvm.MethodName) prog_63_method_31_code (2 : Nat) (Option.some Jvm.ClassFile.FieldType.long)) ∈ lw_all := lw_g (lw_at lw_m36 10 rfl) rfl
theorem q8805 : (Jvm.Cond.instanceMethod ({ cls := "WasteHouseModel$RoundColumnsModel", name := "dual", desc := "(II)J" } : Jvm.MethodName)) ∈ lw_all := lw_g (lw_at lw_m36 13 rfl) rfl
theorem q8806 : (Jvm.Cond.selects "WasteHouseModel$RoundColumnsModel" ({ cls := "WasteHouseModel$RoundColumnsModel", name := "dual", desc := "(II)J" } : Jvm.MethodName) ({ cls := "WasteHouseModel$RoundColumnsModel", name := "dual", desc := "(II)J" } : Jvm.MethodName)) ∈ lw_all := lw_g (lw_at lw_m36 14 rfl) rfl
theorem q8807 : (Jvm.Cond.code ({ cls := "WasteHouseModel$RoundColumnsModel", name := "dual", desc := "(II)J" } : Jvm.MethodName) prog_63_method_37_code (13 : Nat) (Option.some Jvm.ClassFile.FieldType.long)) ∈ lw_all := lw_g (lw_at lw_m36 15 rfl) rfl
theorem q8810 : (Jvm.Cond.instanceMethod ({ cls := "WasteHouseModel$RoundColumnsModel", name := "used", desc := "(II)J" } : Jvm.MethodName)) ∈ lw_all := lw_g (lw_at lw_m36 18 rfl) rfl
theorem q8811 : (Jvm.Cond.selects "WasteHouseModel$RoundColumnsModel" ({ cls := "WasteHouseModel$RoundColumnsModel", name := "used", desc := "(II)J" } : Jvm.MethodName) ({ cls := "WasteHouseModel$RoundColumnsModel", name := "used", desc := "(II)J" } : Jvm.MethodName)) ∈ lw_all := lw_g (lw_at lw_m36 19 rfl) rfl
theorem q8812 : (Jvm.Cond.code ({ cls := "WasteHouseModel$RoundColumnsModel", name := "used", desc := "(II)J" } : Jvm.MethodName) prog_63_method_38_code (5 : Nat) (Option.some Jvm.ClassFile.FieldType.long)) ∈ lw_all := lw_g (lw_at lw_m36 20 rfl) rfl
theorem q8814 : (Jvm.Cond.instanceMethod ({ cls := "WasteHouseModel$RoundColumnsModel", name := "share", desc := "(II)J" } : Jvm.MethodName)) ∈ lw_all := lw_g (lw_at lw_m36 22 rfl) rfl
theorem q8815 : (Jvm.Cond.selects "WasteHouseModel$RoundColumnsModel" ({ cls := "WasteHouseModel$RoundColumnsModel", name := "share", desc := "(II)J" } : Jvm.MethodName) ({ cls := "WasteHouseModel$RoundColumnsModel", name := "share", desc := "(II)J" } : Jvm.MethodName)) ∈ lw_all := lw_g (lw_at lw_m36 23 rfl) rfl
theorem q8816 : (Jvm.Cond.code ({ cls := "WasteHouseModel$RoundColumnsModel", name := "share", desc := "(II)J" } : Jvm.MethodName) prog_63_method_39_code (8 : Nat) (Option.some Jvm.ClassFile.FieldType.long)) ∈ lw_all := lw_g (lw_at lw_m36 24 rfl) rfl
theorem q8817 : (Jvm.Cond.methodLink "WasteHouseModel$RoundColumnsModel" (201 : Nat) ({ cls := "WasteHouseModel$RoundColumnsModel", name := "kilogramsOf", desc := "(I)I" } : Jvm.MethodName)) ∈ lw_all := lw_g (lw_at lw_m36 25 rfl) rfl
theorem q8820 : (Jvm.Cond.instanceMethod ({ cls := "WasteHouseModel$RoundColumnsModel", name := "dropped", desc := "(I)Z" } : Jvm.MethodName)) ∈ lw_all := lw_g (lw_at lw_m36 28 rfl) rfl
theorem q8821 : (Jvm.Cond.selects "WasteHouseModel$RoundColumnsModel" ({ cls := "WasteHouseModel$RoundColumnsModel", name := "dropped", desc := "(I)Z" } : Jvm.MethodName) ({ cls := "WasteHouseModel$RoundColumnsModel", name := "dropped", desc := "(I)Z" } : Jvm.MethodName)) ∈ lw_all := lw_g (lw_at lw_m36 29 rfl) rfl
theorem q8822 : (Jvm.Cond.code ({ cls := "WasteHouseModel$RoundColumnsModel", name := "dropped", desc := "(I)Z" } : Jvm.MethodName) prog_63_method_41_code (4 : Nat) (Option.some Jvm.ClassFile.FieldType.boolean)) ∈ lw_all := lw_g (lw_at lw_m36 30 rfl) rfl
theorem q8825 : (Jvm.Cond.instanceMethod ({ cls := "WasteHouseModel$RoundColumnsModel", name := "cuts", desc := "()I" } : Jvm.MethodName)) ∈ lw_all := lw_g (lw_at lw_m36 33 rfl) rfl
theorem q8826 : (Jvm.Cond.selects "WasteHouseModel$RoundColumnsModel" ({ cls := "WasteHouseModel$RoundColumnsModel", name := "cuts", desc := "()I" } : Jvm.MethodName) ({ cls := "WasteHouseModel$RoundColumnsModel", name := "cuts", desc := "()I" } : Jvm.MethodName)) ∈ lw_all := lw_g (lw_at lw_m36 34 rfl) rfl
theorem q8827 : (Jvm.Cond.code ({ cls := "WasteHouseModel$RoundColumnsModel", name := "cuts", desc := "()I" } : Jvm.MethodName) prog_63_method_43_code (3 : Nat) (Option.some Jvm.ClassFile.FieldType.int)) ∈ lw_all := lw_g (lw_at lw_m36 35 rfl) rfl
theorem q8828 : (Jvm.Cond.methodLink "WasteHouseModel$RoundColumnsModel" (204 : Nat) ({ cls := "WasteHouseModel$RoundColumnsModel", name := "isCut", desc := "(I)Z" } : Jvm.MethodName)) ∈ lw_all := lw_g (lw_at lw_m36 36 rfl) rfl
theorem q8829 : (Jvm.Cond.privateMethod ({ cls := "WasteHouseModel$RoundColumnsModel", name := "isCut", desc := "(I)Z" } : Jvm.MethodName)) ∈ lw_tbl := lw_at lw_m36 37 rfl
theorem q8830 : (Jvm.Cond.instanceMethod ({ cls := "WasteHouseModel$RoundColumnsModel", name := "isCut", desc := "(I)Z" } : Jvm.MethodName)) ∈ lw_all := lw_g (lw_at lw_m36 38 rfl) rfl
theorem q8831 : (Jvm.Cond.code ({ cls := "WasteHouseModel$RoundColumnsModel", name := "isCut", desc := "(I)Z" } : Jvm.MethodName) prog_63_method_42_code (2 : Nat) (Option.some Jvm.ClassFile.FieldType.boolean)) ∈ lw_all := lw_g (lw_at lw_m36 39 rfl) rfl
theorem q8834 : (Jvm.Cond.instanceMethod ({ cls := "WasteHouseModel$RoundColumnsModel", name := "cut", desc := "(II)I" } : Jvm.MethodName)) ∈ lw_all := lw_g (lw_at lw_m36 42 rfl) rfl
theorem q8835 : (Jvm.Cond.selects "WasteHouseModel$RoundColumnsModel" ({ cls := "WasteHouseModel$RoundColumnsModel", name := "cut", desc := "(II)I" } : Jvm.MethodName) ({ cls := "WasteHouseModel$RoundColumnsModel", name := "cut", desc := "(II)I" } : Jvm.MethodName)) ∈ lw_all := lw_g (lw_at lw_m36 43 rfl) rfl
theorem q8836 : (Jvm.Cond.code ({ cls := "WasteHouseModel$RoundColumnsModel", name := "cut", desc := "(II)I" } : Jvm.MethodName) prog_63_method_44_code (5 : Nat) (Option.some Jvm.ClassFile.FieldType.int)) ∈ lw_all := lw_g (lw_at lw_m36 44 rfl) rfl
theorem q8837 : (Jvm.Cond.methodLink "WasteHouseModel$RoundColumnsModel" (207 : Nat) ({ cls := "WasteHouseModel$RoundColumnsModel", name := "bitOf", desc := "(II)I" } : Jvm.MethodName)) ∈ lw_all := lw_g (lw_at lw_m36 45 rfl) rfl
theorem q8838 : (Jvm.Cond.static ({ cls := "WasteHouseModel$RoundColumnsModel", name := "bitOf", desc := "(II)I" } : Jvm.MethodName)) ∈ lw_all := lw_g (lw_at lw_m36 46 rfl) rfl
theorem q8839 : (Jvm.Cond.code ({ cls := "WasteHouseModel$RoundColumnsModel", name := "bitOf", desc := "(II)I" } : Jvm.MethodName) prog_63_method_45_code (4 : Nat) (Option.some Jvm.ClassFile.FieldType.int)) ∈ lw_all := lw_g (lw_at lw_m36 47 rfl) rfl
theorem q8841 : (Jvm.Cond.instanceMethod ({ cls := "WasteHouseModel$RoundColumnsModel", name := "check", desc := "()I" } : Jvm.MethodName)) ∈ lw_all := lw_g (lw_at lw_m36 49 rfl) rfl
theorem q8842 : (Jvm.Cond.selects "WasteHouseModel$RoundColumnsModel" ({ cls := "WasteHouseModel$RoundColumnsModel", name := "check", desc := "()I" } : Jvm.MethodName) ({ cls := "WasteHouseModel$RoundColumnsModel", name := "check", desc := "()I" } : Jvm.MethodName)) ∈ lw_all := lw_g (lw_at lw_m36 50 rfl) rfl
theorem q8843 : (Jvm.Cond.code ({ cls := "WasteHouseModel$RoundColumnsModel", name := "check", desc := "()I" } : Jvm.MethodName) prog_63_method_46_code (4 : Nat) (Option.some Jvm.ClassFile.FieldType.int)) ∈ lw_all := lw_g (lw_at lw_m36 51 rfl) rfl
theorem q8846 : (Jvm.Cond.instanceMethod ({ cls := "WasteHouseModel$RoundColumnsModel", name := "labelsClosed", desc := "()Z" } : Jvm.MethodName)) ∈ lw_all := lw_g (lw_at lw_m36 54 rfl) rfl
theorem q8847 : (Jvm.Cond.selects "WasteHouseModel$RoundColumnsModel" ({ cls := "WasteHouseModel$RoundColumnsModel", name := "labelsClosed", desc := "()Z" } : Jvm.MethodName) ({ cls := "WasteHouseModel$RoundColumnsModel", name := "labelsClosed", desc := "()Z" } : Jvm.MethodName)) ∈ lw_all := lw_g (lw_at lw_m36 55 rfl) rfl
theorem q8848 : (Jvm.Cond.code ({ cls := "WasteHouseModel$RoundColumnsModel", name := "labelsClosed", desc := "()Z" } : Jvm.MethodName) prog_63_method_47_code (4 : Nat) (Option.some Jvm.ClassFile.FieldType.boolean)) ∈ lw_all := lw_g (lw_at lw_m36 56 rfl) rfl
theorem q8850 : (Jvm.Cond.instanceMethod ({ cls := "WasteHouseModel$RoundColumnsModel", name := "thrown", desc := "()I" } : Jvm.MethodName)) ∈ lw_all := lw_g (lw_at lw_m36 58 rfl) rfl
theorem q8851 : (Jvm.Cond.selects "WasteHouseModel$RoundColumnsModel" ({ cls := "WasteHouseModel$RoundColumnsModel", name := "thrown", desc := "()I" } : Jvm.MethodName) ({ cls := "WasteHouseModel$RoundColumnsModel", name := "thrown", desc := "()I" } : Jvm.MethodName)) ∈ lw_all := lw_g (lw_at lw_m36 59 rfl) rfl
theorem q8852 : (Jvm.Cond.code ({ cls := "WasteHouseModel$RoundColumnsModel", name := "thrown", desc := "()I" } : Jvm.MethodName) prog_63_method_2_code (1 : Nat) (Option.some Jvm.ClassFile.FieldType.int)) ∈ lw_all := lw_g (lw_at lw_m36 60 rfl) rfl
theorem q9675 : (Jvm.Cond.castable "WasteHouseModel$RoundColumnsModel" "java/lang/Object") ∈ lw_tbl := lw_at lw_m39 163 rfl
theorem in_X52 : ∀ w ∈ wsX520, w ∈ lw_all := lw_in wsX520 [7011, 7013, 7015, 7017, 7019, 7021, 7023, 7025, 7027, 7029, 7031, 7033, 7035, 7037, 7039, 7041, 7043, 7045, 7047, 7049, 7051, 7053, 7055, 7057, 7059, 7061, 7063, 7065, 7067, 7069] (by decide +kernel) (by decide +kernel)
