/-! WasteHouseModel$HazardRulesModel -/
set_option maxRecDepth 100000
def RX51 : String := "WasteHouseModel$HazardRulesModel"
def TX51 : u_T := fun k => match k with
  | 0 => ("WasteHouseModel$HazardRulesModel", "coming", "[B", true)
  | 1 => ("WasteHouseModel$HazardRulesModel", "size", "I", false)
  | 2 => ("WasteHouseModel$HazardRulesModel", "kept", "[B", true)
  | 3 => ("WasteHouseModel$HazardRulesModel", "starts", "[I", true)
  | 4 => ("WasteHouseModel$HazardRulesModel", "ends", "[I", true)
  | 5 => ("WasteHouseModel$HazardRulesModel", "words", "I", false)
  | 6 => ("WasteHouseModel$HazardRulesModel", "newStarts", "[I", true)
  | 7 => ("WasteHouseModel$HazardRulesModel", "newEnds", "[I", true)
  | 8 => ("WasteHouseModel$HazardRulesModel", "newWords", "I", false)
  | 9 => ("WasteHouseModel$HazardRulesModel", "ruleAt", "[I", true)
  | 10 => ("WasteHouseModel$HazardRulesModel", "ruleEdition", "[I", true)
  | 11 => ("WasteHouseModel$HazardRulesModel", "rules", "I", false)
  | 12 => ("WasteHouseModel$HazardRulesModel", "days", "[I", true)
  | 13 => ("WasteHouseModel$HazardRulesModel", "editions", "I", false)
  | 14 => ("WasteHouseModel$HazardRulesModel", "lows", "[I", true)
  | 15 => ("WasteHouseModel$HazardRulesModel", "highs", "[I", true)
  | 16 => ("WasteHouseModel$HazardRulesModel", "known", "[Z", true)
  | 17 => ("WasteHouseModel$HazardRulesModel", "results", "[I", true)
  | 18 => ("WasteHouseModel$HazardRulesModel", "isStrict", "Z", false)
  | 19 => ("WasteHouseModel$HazardRulesModel", "acted", "I", false)
  | 20 => ("WasteHouseModel$HazardRulesModel", "states", "[I", true)
  | 21 => ("WasteHouseModel$HazardRulesModel", "lacks", "[I", true)
  | 22 => ("WasteHouseModel$HazardRulesModel", "order", "[I", true)
  | 23 => ("WasteHouseModel$HazardRulesModel", "held", "I", false)
  | 24 => ("WasteHouseModel$HazardRulesModel", "fault", "I", false)
  | 25 => ("WasteHouseModel$HazardRulesModel", "at", "I", false)
  | 26 => ("WasteHouseModel$HazardRulesModel", "total", "J", false)
  | 27 => ("WasteHouseModel$HazardRulesModel", "lack", "I", false)
  | _ => ("WasteHouseModel$HazardRulesModel", "compares", "I", false)
def tyX51 : Nat → FieldType := fun k => match k with
  | 0 => .array .byte
  | 1 => .int
  | 2 => .array .byte
  | 3 => .array .int
  | 4 => .array .int
  | 5 => .int
  | 6 => .array .int
  | 7 => .array .int
  | 8 => .int
  | 9 => .array .int
  | 10 => .array .int
  | 11 => .int
  | 12 => .array .int
  | 13 => .int
  | 14 => .array .int
  | 15 => .array .int
  | 16 => .array .boolean
  | 17 => .array .int
  | 18 => .boolean
  | 19 => .int
  | 20 => .array .int
  | 21 => .array .int
  | 22 => .array .int
  | 23 => .int
  | 24 => .int
  | 25 => .int
  | 26 => .long
  | 27 => .int
  | _ => .int
abbrev wsX510 : List Cond := u_ws RX51 TX51 29
set_option maxRecDepth 100000 in
theorem nmX51 : ∀ a, a < 29 → ∀ b, b < 29 → a ≠ b → (TX51 a).2.1 ≠ (TX51 b).2.1 := by decide +kernel
set_option maxRecDepth 100000 in
theorem tyX51_ok : ∀ k, k < 29 → parseFieldDescriptor (TX51 k).2.2.1 = some (tyX51 k) := by decide +kernel
abbrev cX51_init : ByteArray := prog_60_method_1_code
def yX51_init : MethodName := ⟨RX51, "<init>", "()V"⟩
def dkwX51_init_7 : List UInt8 := [2, 79, 132, 1, 1, 167, 255, 240, 177]
abbrev dktX51_init_7 : List UInt8 := dkwX51_init_7 ++ []
def dkwX51_init_6 : List UInt8 := [181, 0, 62, 42, 16, 20, 188, 10, 181, 0, 65, 3, 60, 27, 16, 7, 163, 0, 16, 42, 180, 0, 48, 27]
abbrev dktX51_init_6 : List UInt8 := dkwX51_init_6 ++ dktX51_init_7
def dkwX51_init_5 : List UInt8 := [4, 181, 0, 51, 42, 2, 181, 0, 55, 42, 16, 60, 188, 10, 181, 0, 59, 42, 16, 60, 188, 10]
abbrev dktX51_init_5 : List UInt8 := dkwX51_init_5 ++ dktX51_init_6
def dkwX51_init_4 : List UInt8 := [16, 16, 188, 10, 181, 0, 41, 42, 16, 16, 188, 4, 181, 0, 44, 42, 16, 8, 188, 10, 181, 0, 48, 42]
abbrev dktX51_init_4 : List UInt8 := dkwX51_init_4 ++ dktX51_init_5
def dkwX51_init_3 : List UInt8 := [188, 10, 181, 0, 32, 42, 17, 5, 220, 188, 10, 181, 0, 35, 42, 16, 16, 188, 10, 181, 0, 38, 42]
abbrev dktX51_init_3 : List UInt8 := dkwX51_init_3 ++ dktX51_init_4
def dkwX51_init_2 : List UInt8 := [181, 0, 23, 42, 17, 5, 221, 188, 10, 181, 0, 26, 42, 16, 60, 188, 10, 181, 0, 29, 42, 16, 60]
abbrev dktX51_init_2 : List UInt8 := dkwX51_init_2 ++ dktX51_init_3
def dkwX51_init_1 : List UInt8 := [17, 5, 221, 188, 10, 181, 0, 16, 42, 17, 5, 221, 188, 10, 181, 0, 20, 42, 17, 5, 221, 188, 10]
abbrev dktX51_init_1 : List UInt8 := dkwX51_init_1 ++ dktX51_init_2
def dkwX51_init_0 : List UInt8 := [42, 183, 0, 1, 42, 17, 11, 184, 188, 8, 181, 0, 7, 42, 17, 11, 184, 188, 8, 181, 0, 13, 42]
abbrev dktX51_init_0 : List UInt8 := dkwX51_init_0 ++ dktX51_init_1
theorem dksX51_init_0 : cX51_init.data.toList.drop 0 = dktX51_init_0 := by decide +kernel
theorem dksX51_init_1 : cX51_init.data.toList.drop 23 = dktX51_init_1 := dk_seg dksX51_init_0 23 rfl rfl
theorem dksX51_init_2 : cX51_init.data.toList.drop 46 = dktX51_init_2 := dk_seg dksX51_init_1 23 rfl rfl
theorem dksX51_init_3 : cX51_init.data.toList.drop 69 = dktX51_init_3 := dk_seg dksX51_init_2 23 rfl rfl
theorem dksX51_init_4 : cX51_init.data.toList.drop 92 = dktX51_init_4 := dk_seg dksX51_init_3 23 rfl rfl
theorem dksX51_init_5 : cX51_init.data.toList.drop 116 = dktX51_init_5 := dk_seg dksX51_init_4 24 rfl rfl
theorem dksX51_init_6 : cX51_init.data.toList.drop 138 = dktX51_init_6 := dk_seg dksX51_init_5 22 rfl rfl
theorem dksX51_init_7 : cX51_init.data.toList.drop 162 = dktX51_init_7 := dk_seg dksX51_init_6 24 rfl rfl
theorem dX51_init_0 : decode cX51_init 0 = .ok (.aload_n 0, 1) := dk_42 (dk_at dksX51_init_0 0 rfl rfl)
theorem dX51_init_1 : decode cX51_init 1 = .ok (.invokespecial 1, 3) := dk_183 0 1 (dk_at dksX51_init_0 1 rfl rfl)
theorem dX51_init_4 : decode cX51_init 4 = .ok (.aload_n 0, 1) := dk_42 (dk_at dksX51_init_0 4 rfl rfl)
theorem dX51_init_5 : decode cX51_init 5 = .ok (.sipush 3000, 3) := dk_17 11 184 (dk_at dksX51_init_0 5 rfl rfl)
theorem dX51_init_8 : decode cX51_init 8 = .ok (.newarray .byte, 2) := dk_188_8 (dk_at dksX51_init_0 8 rfl rfl)
theorem dX51_init_10 : decode cX51_init 10 = .ok (.putfield 7, 3) := dk_181 0 7 (dk_at dksX51_init_0 10 rfl rfl)
theorem dX51_init_13 : decode cX51_init 13 = .ok (.aload_n 0, 1) := dk_42 (dk_at dksX51_init_0 13 rfl rfl)
theorem dX51_init_14 : decode cX51_init 14 = .ok (.sipush 3000, 3) := dk_17 11 184 (dk_at dksX51_init_0 14 rfl rfl)
theorem dX51_init_17 : decode cX51_init 17 = .ok (.newarray .byte, 2) := dk_188_8 (dk_at dksX51_init_0 17 rfl rfl)
theorem dX51_init_19 : decode cX51_init 19 = .ok (.putfield 13, 3) := dk_181 0 13 (dk_at dksX51_init_0 19 rfl rfl)
theorem dX51_init_22 : decode cX51_init 22 = .ok (.aload_n 0, 1) := dk_42 (dk_at dksX51_init_0 22 rfl rfl)
theorem dX51_init_23 : decode cX51_init 23 = .ok (.sipush 1501, 3) := dk_17 5 221 (dk_at dksX51_init_1 0 rfl rfl)
theorem dX51_init_26 : decode cX51_init 26 = .ok (.newarray .int, 2) := dk_188_10 (dk_at dksX51_init_1 3 rfl rfl)
theorem dX51_init_28 : decode cX51_init 28 = .ok (.putfield 16, 3) := dk_181 0 16 (dk_at dksX51_init_1 5 rfl rfl)
theorem dX51_init_31 : decode cX51_init 31 = .ok (.aload_n 0, 1) := dk_42 (dk_at dksX51_init_1 8 rfl rfl)
theorem dX51_init_32 : decode cX51_init 32 = .ok (.sipush 1501, 3) := dk_17 5 221 (dk_at dksX51_init_1 9 rfl rfl)
theorem dX51_init_35 : decode cX51_init 35 = .ok (.newarray .int, 2) := dk_188_10 (dk_at dksX51_init_1 12 rfl rfl)
theorem dX51_init_37 : decode cX51_init 37 = .ok (.putfield 20, 3) := dk_181 0 20 (dk_at dksX51_init_1 14 rfl rfl)
theorem dX51_init_40 : decode cX51_init 40 = .ok (.aload_n 0, 1) := dk_42 (dk_at dksX51_init_1 17 rfl rfl)
theorem dX51_init_41 : decode cX51_init 41 = .ok (.sipush 1501, 3) := dk_17 5 221 (dk_at dksX51_init_1 18 rfl rfl)
theorem dX51_init_44 : decode cX51_init 44 = .ok (.newarray .int, 2) := dk_188_10 (dk_at dksX51_init_1 21 rfl rfl)
theorem dX51_init_46 : decode cX51_init 46 = .ok (.putfield 23, 3) := dk_181 0 23 (dk_at dksX51_init_2 0 rfl rfl)
theorem dX51_init_49 : decode cX51_init 49 = .ok (.aload_n 0, 1) := dk_42 (dk_at dksX51_init_2 3 rfl rfl)
theorem dX51_init_50 : decode cX51_init 50 = .ok (.sipush 1501, 3) := dk_17 5 221 (dk_at dksX51_init_2 4 rfl rfl)
theorem dX51_init_53 : decode cX51_init 53 = .ok (.newarray .int, 2) := dk_188_10 (dk_at dksX51_init_2 7 rfl rfl)
theorem dX51_init_55 : decode cX51_init 55 = .ok (.putfield 26, 3) := dk_181 0 26 (dk_at dksX51_init_2 9 rfl rfl)
theorem dX51_init_58 : decode cX51_init 58 = .ok (.aload_n 0, 1) := dk_42 (dk_at dksX51_init_2 12 rfl rfl)
theorem dX51_init_59 : decode cX51_init 59 = .ok (.bipush 60, 2) := dk_16 60 (dk_at dksX51_init_2 13 rfl rfl)
theorem dX51_init_61 : decode cX51_init 61 = .ok (.newarray .int, 2) := dk_188_10 (dk_at dksX51_init_2 15 rfl rfl)
theorem dX51_init_63 : decode cX51_init 63 = .ok (.putfield 29, 3) := dk_181 0 29 (dk_at dksX51_init_2 17 rfl rfl)
theorem dX51_init_66 : decode cX51_init 66 = .ok (.aload_n 0, 1) := dk_42 (dk_at dksX51_init_2 20 rfl rfl)
theorem dX51_init_67 : decode cX51_init 67 = .ok (.bipush 60, 2) := dk_16 60 (dk_at dksX51_init_2 21 rfl rfl)
theorem dX51_init_69 : decode cX51_init 69 = .ok (.newarray .int, 2) := dk_188_10 (dk_at dksX51_init_3 0 rfl rfl)
theorem dX51_init_71 : decode cX51_init 71 = .ok (.putfield 32, 3) := dk_181 0 32 (dk_at dksX51_init_3 2 rfl rfl)
theorem dX51_init_74 : decode cX51_init 74 = .ok (.aload_n 0, 1) := dk_42 (dk_at dksX51_init_3 5 rfl rfl)
theorem dX51_init_75 : decode cX51_init 75 = .ok (.sipush 1500, 3) := dk_17 5 220 (dk_at dksX51_init_3 6 rfl rfl)
theorem dX51_init_78 : decode cX51_init 78 = .ok (.newarray .int, 2) := dk_188_10 (dk_at dksX51_init_3 9 rfl rfl)
theorem dX51_init_80 : decode cX51_init 80 = .ok (.putfield 35, 3) := dk_181 0 35 (dk_at dksX51_init_3 11 rfl rfl)
theorem dX51_init_83 : decode cX51_init 83 = .ok (.aload_n 0, 1) := dk_42 (dk_at dksX51_init_3 14 rfl rfl)
theorem dX51_init_84 : decode cX51_init 84 = .ok (.bipush 16, 2) := dk_16 16 (dk_at dksX51_init_3 15 rfl rfl)
theorem dX51_init_86 : decode cX51_init 86 = .ok (.newarray .int, 2) := dk_188_10 (dk_at dksX51_init_3 17 rfl rfl)
theorem dX51_init_88 : decode cX51_init 88 = .ok (.putfield 38, 3) := dk_181 0 38 (dk_at dksX51_init_3 19 rfl rfl)
theorem dX51_init_91 : decode cX51_init 91 = .ok (.aload_n 0, 1) := dk_42 (dk_at dksX51_init_3 22 rfl rfl)
theorem dX51_init_92 : decode cX51_init 92 = .ok (.bipush 16, 2) := dk_16 16 (dk_at dksX51_init_4 0 rfl rfl)
theorem dX51_init_94 : decode cX51_init 94 = .ok (.newarray .int, 2) := dk_188_10 (dk_at dksX51_init_4 2 rfl rfl)
theorem dX51_init_96 : decode cX51_init 96 = .ok (.putfield 41, 3) := dk_181 0 41 (dk_at dksX51_init_4 4 rfl rfl)
theorem dX51_init_99 : decode cX51_init 99 = .ok (.aload_n 0, 1) := dk_42 (dk_at dksX51_init_4 7 rfl rfl)
theorem dX51_init_100 : decode cX51_init 100 = .ok (.bipush 16, 2) := dk_16 16 (dk_at dksX51_init_4 8 rfl rfl)
theorem dX51_init_102 : decode cX51_init 102 = .ok (.newarray .boolean, 2) := dk_188_4 (dk_at dksX51_init_4 10 rfl rfl)
theorem dX51_init_104 : decode cX51_init 104 = .ok (.putfield 44, 3) := dk_181 0 44 (dk_at dksX51_init_4 12 rfl rfl)
theorem dX51_init_107 : decode cX51_init 107 = .ok (.aload_n 0, 1) := dk_42 (dk_at dksX51_init_4 15 rfl rfl)
theorem dX51_init_108 : decode cX51_init 108 = .ok (.bipush 8, 2) := dk_16 8 (dk_at dksX51_init_4 16 rfl rfl)
theorem dX51_init_110 : decode cX51_init 110 = .ok (.newarray .int, 2) := dk_188_10 (dk_at dksX51_init_4 18 rfl rfl)
theorem dX51_init_112 : decode cX51_init 112 = .ok (.putfield 48, 3) := dk_181 0 48 (dk_at dksX51_init_4 20 rfl rfl)
theorem dX51_init_115 : decode cX51_init 115 = .ok (.aload_n 0, 1) := dk_42 (dk_at dksX51_init_4 23 rfl rfl)
theorem dX51_init_116 : decode cX51_init 116 = .ok (.iconst 1, 1) := dk_4 (dk_at dksX51_init_5 0 rfl rfl)
theorem dX51_init_117 : decode cX51_init 117 = .ok (.putfield 51, 3) := dk_181 0 51 (dk_at dksX51_init_5 1 rfl rfl)
theorem dX51_init_120 : decode cX51_init 120 = .ok (.aload_n 0, 1) := dk_42 (dk_at dksX51_init_5 4 rfl rfl)
theorem dX51_init_121 : decode cX51_init 121 = .ok (.iconst (-1), 1) := dk_2 (dk_at dksX51_init_5 5 rfl rfl)
theorem dX51_init_122 : decode cX51_init 122 = .ok (.putfield 55, 3) := dk_181 0 55 (dk_at dksX51_init_5 6 rfl rfl)
theorem dX51_init_125 : decode cX51_init 125 = .ok (.aload_n 0, 1) := dk_42 (dk_at dksX51_init_5 9 rfl rfl)
theorem dX51_init_126 : decode cX51_init 126 = .ok (.bipush 60, 2) := dk_16 60 (dk_at dksX51_init_5 10 rfl rfl)
theorem dX51_init_128 : decode cX51_init 128 = .ok (.newarray .int, 2) := dk_188_10 (dk_at dksX51_init_5 12 rfl rfl)
theorem dX51_init_130 : decode cX51_init 130 = .ok (.putfield 59, 3) := dk_181 0 59 (dk_at dksX51_init_5 14 rfl rfl)
theorem dX51_init_133 : decode cX51_init 133 = .ok (.aload_n 0, 1) := dk_42 (dk_at dksX51_init_5 17 rfl rfl)
theorem dX51_init_134 : decode cX51_init 134 = .ok (.bipush 60, 2) := dk_16 60 (dk_at dksX51_init_5 18 rfl rfl)
theorem dX51_init_136 : decode cX51_init 136 = .ok (.newarray .int, 2) := dk_188_10 (dk_at dksX51_init_5 20 rfl rfl)
theorem dX51_init_138 : decode cX51_init 138 = .ok (.putfield 62, 3) := dk_181 0 62 (dk_at dksX51_init_6 0 rfl rfl)
theorem dX51_init_141 : decode cX51_init 141 = .ok (.aload_n 0, 1) := dk_42 (dk_at dksX51_init_6 3 rfl rfl)
theorem dX51_init_142 : decode cX51_init 142 = .ok (.bipush 20, 2) := dk_16 20 (dk_at dksX51_init_6 4 rfl rfl)
theorem dX51_init_144 : decode cX51_init 144 = .ok (.newarray .int, 2) := dk_188_10 (dk_at dksX51_init_6 6 rfl rfl)
theorem dX51_init_146 : decode cX51_init 146 = .ok (.putfield 65, 3) := dk_181 0 65 (dk_at dksX51_init_6 8 rfl rfl)
theorem dX51_init_149 : decode cX51_init 149 = .ok (.iconst 0, 1) := dk_3 (dk_at dksX51_init_6 11 rfl rfl)
theorem dX51_init_150 : decode cX51_init 150 = .ok (.istore_n 1, 1) := dk_60 (dk_at dksX51_init_6 12 rfl rfl)
theorem dX51_init_151 : decode cX51_init 151 = .ok (.iload_n 1, 1) := dk_27 (dk_at dksX51_init_6 13 rfl rfl)
theorem dX51_init_152 : decode cX51_init 152 = .ok (.bipush 7, 2) := dk_16 7 (dk_at dksX51_init_6 14 rfl rfl)
theorem dX51_init_154 : decode cX51_init 154 = .ok (.if_icmp .gt 16, 3) := dk_163 0 16 (dk_at dksX51_init_6 16 rfl rfl)
theorem dX51_init_157 : decode cX51_init 157 = .ok (.aload_n 0, 1) := dk_42 (dk_at dksX51_init_6 19 rfl rfl)
theorem dX51_init_158 : decode cX51_init 158 = .ok (.getfield 48, 3) := dk_180 0 48 (dk_at dksX51_init_6 20 rfl rfl)
theorem dX51_init_161 : decode cX51_init 161 = .ok (.iload_n 1, 1) := dk_27 (dk_at dksX51_init_6 23 rfl rfl)
theorem dX51_init_162 : decode cX51_init 162 = .ok (.iconst (-1), 1) := dk_2 (dk_at dksX51_init_7 0 rfl rfl)
theorem dX51_init_163 : decode cX51_init 163 = .ok (.iastore, 1) := dk_79 (dk_at dksX51_init_7 1 rfl rfl)
theorem dX51_init_164 : decode cX51_init 164 = .ok (.iinc 1 1, 3) := dk_132 1 1 (dk_at dksX51_init_7 2 rfl rfl)
theorem dX51_init_167 : decode cX51_init 167 = .ok (.goto (-16), 3) := dk_167 255 240 (dk_at dksX51_init_7 5 rfl rfl)
theorem dX51_init_170 : decode cX51_init 170 = .ok (.return_, 1) := dk_177 (dk_at dksX51_init_7 8 rfl rfl)
abbrev cX51_part : ByteArray := prog_60_method_21_code
def yX51_part : MethodName := ⟨RX51, "part", "(IJJ)Z"⟩
def dkwX51_part_2 : List UInt8 := [180, 0, 38, 27, 32, 136, 79, 42, 180, 0, 41, 27, 22, 4, 136, 79, 4, 172]
abbrev dktX51_part_2 : List UInt8 := dkwX51_part_2 ++ []
def dkwX51_part_1 : List UInt8 := [148, 157, 0, 12, 22, 4, 20, 0, 182, 148, 158, 0, 5, 3, 172, 42, 180, 0, 44, 27, 4, 84, 42]
abbrev dktX51_part_1 : List UInt8 := dkwX51_part_1 ++ dktX51_part_2
def dkwX51_part_0 : List UInt8 := [42, 3, 181, 0, 68, 27, 155, 0, 31, 27, 16, 15, 163, 0, 25, 32, 9, 148, 155, 0, 19, 32, 22, 4]
abbrev dktX51_part_0 : List UInt8 := dkwX51_part_0 ++ dktX51_part_1
theorem dksX51_part_0 : cX51_part.data.toList.drop 0 = dktX51_part_0 := by decide +kernel
theorem dksX51_part_1 : cX51_part.data.toList.drop 24 = dktX51_part_1 := dk_seg dksX51_part_0 24 rfl rfl
theorem dksX51_part_2 : cX51_part.data.toList.drop 47 = dktX51_part_2 := dk_seg dksX51_part_1 23 rfl rfl
theorem dX51_part_0 : decode cX51_part 0 = .ok (.aload_n 0, 1) := dk_42 (dk_at dksX51_part_0 0 rfl rfl)
theorem dX51_part_1 : decode cX51_part 1 = .ok (.iconst 0, 1) := dk_3 (dk_at dksX51_part_0 1 rfl rfl)
theorem dX51_part_2 : decode cX51_part 2 = .ok (.putfield 68, 3) := dk_181 0 68 (dk_at dksX51_part_0 2 rfl rfl)
theorem dX51_part_5 : decode cX51_part 5 = .ok (.iload_n 1, 1) := dk_27 (dk_at dksX51_part_0 5 rfl rfl)
theorem dX51_part_6 : decode cX51_part 6 = .ok (.ifCond .lt 31, 3) := dk_155 0 31 (dk_at dksX51_part_0 6 rfl rfl)
theorem dX51_part_9 : decode cX51_part 9 = .ok (.iload_n 1, 1) := dk_27 (dk_at dksX51_part_0 9 rfl rfl)
theorem dX51_part_10 : decode cX51_part 10 = .ok (.bipush 15, 2) := dk_16 15 (dk_at dksX51_part_0 10 rfl rfl)
theorem dX51_part_12 : decode cX51_part 12 = .ok (.if_icmp .gt 25, 3) := dk_163 0 25 (dk_at dksX51_part_0 12 rfl rfl)
theorem dX51_part_15 : decode cX51_part 15 = .ok (.lload_n 2, 1) := dk_32 (dk_at dksX51_part_0 15 rfl rfl)
theorem dX51_part_16 : decode cX51_part 16 = .ok (.lconst 0, 1) := dk_9 (dk_at dksX51_part_0 16 rfl rfl)
theorem dX51_part_17 : decode cX51_part 17 = .ok (.lcmp, 1) := dk_148 (dk_at dksX51_part_0 17 rfl rfl)
theorem dX51_part_18 : decode cX51_part 18 = .ok (.ifCond .lt 19, 3) := dk_155 0 19 (dk_at dksX51_part_0 18 rfl rfl)
theorem dX51_part_21 : decode cX51_part 21 = .ok (.lload_n 2, 1) := dk_32 (dk_at dksX51_part_0 21 rfl rfl)
theorem dX51_part_22 : decode cX51_part 22 = .ok (.lload 4, 2) := dk_22 4 (dk_at dksX51_part_0 22 rfl rfl)
theorem dX51_part_24 : decode cX51_part 24 = .ok (.lcmp, 1) := dk_148 (dk_at dksX51_part_1 0 rfl rfl)
theorem dX51_part_25 : decode cX51_part 25 = .ok (.ifCond .gt 12, 3) := dk_157 0 12 (dk_at dksX51_part_1 1 rfl rfl)
theorem dX51_part_28 : decode cX51_part 28 = .ok (.lload 4, 2) := dk_22 4 (dk_at dksX51_part_1 4 rfl rfl)
theorem dX51_part_30 : decode cX51_part 30 = .ok (.ldc2_w 182, 3) := dk_20 0 182 (dk_at dksX51_part_1 6 rfl rfl)
theorem dX51_part_33 : decode cX51_part 33 = .ok (.lcmp, 1) := dk_148 (dk_at dksX51_part_1 9 rfl rfl)
theorem dX51_part_34 : decode cX51_part 34 = .ok (.ifCond .le 5, 3) := dk_158 0 5 (dk_at dksX51_part_1 10 rfl rfl)
theorem dX51_part_37 : decode cX51_part 37 = .ok (.iconst 0, 1) := dk_3 (dk_at dksX51_part_1 13 rfl rfl)
theorem dX51_part_38 : decode cX51_part 38 = .ok (.ireturn, 1) := dk_172 (dk_at dksX51_part_1 14 rfl rfl)
theorem dX51_part_39 : decode cX51_part 39 = .ok (.aload_n 0, 1) := dk_42 (dk_at dksX51_part_1 15 rfl rfl)
theorem dX51_part_40 : decode cX51_part 40 = .ok (.getfield 44, 3) := dk_180 0 44 (dk_at dksX51_part_1 16 rfl rfl)
theorem dX51_part_43 : decode cX51_part 43 = .ok (.iload_n 1, 1) := dk_27 (dk_at dksX51_part_1 19 rfl rfl)
theorem dX51_part_44 : decode cX51_part 44 = .ok (.iconst 1, 1) := dk_4 (dk_at dksX51_part_1 20 rfl rfl)
theorem dX51_part_45 : decode cX51_part 45 = .ok (.bastore, 1) := dk_84 (dk_at dksX51_part_1 21 rfl rfl)
theorem dX51_part_46 : decode cX51_part 46 = .ok (.aload_n 0, 1) := dk_42 (dk_at dksX51_part_1 22 rfl rfl)
theorem dX51_part_47 : decode cX51_part 47 = .ok (.getfield 38, 3) := dk_180 0 38 (dk_at dksX51_part_2 0 rfl rfl)
theorem dX51_part_50 : decode cX51_part 50 = .ok (.iload_n 1, 1) := dk_27 (dk_at dksX51_part_2 3 rfl rfl)
theorem dX51_part_51 : decode cX51_part 51 = .ok (.lload_n 2, 1) := dk_32 (dk_at dksX51_part_2 4 rfl rfl)
theorem dX51_part_52 : decode cX51_part 52 = .ok (.l2i, 1) := dk_136 (dk_at dksX51_part_2 5 rfl rfl)
theorem dX51_part_53 : decode cX51_part 53 = .ok (.iastore, 1) := dk_79 (dk_at dksX51_part_2 6 rfl rfl)
theorem dX51_part_54 : decode cX51_part 54 = .ok (.aload_n 0, 1) := dk_42 (dk_at dksX51_part_2 7 rfl rfl)
theorem dX51_part_55 : decode cX51_part 55 = .ok (.getfield 41, 3) := dk_180 0 41 (dk_at dksX51_part_2 8 rfl rfl)
theorem dX51_part_58 : decode cX51_part 58 = .ok (.iload_n 1, 1) := dk_27 (dk_at dksX51_part_2 11 rfl rfl)
theorem dX51_part_59 : decode cX51_part 59 = .ok (.lload 4, 2) := dk_22 4 (dk_at dksX51_part_2 12 rfl rfl)
theorem dX51_part_61 : decode cX51_part 61 = .ok (.l2i, 1) := dk_136 (dk_at dksX51_part_2 14 rfl rfl)
theorem dX51_part_62 : decode cX51_part 62 = .ok (.iastore, 1) := dk_79 (dk_at dksX51_part_2 15 rfl rfl)
theorem dX51_part_63 : decode cX51_part 63 = .ok (.iconst 1, 1) := dk_4 (dk_at dksX51_part_2 16 rfl rfl)
theorem dX51_part_64 : decode cX51_part 64 = .ok (.ireturn, 1) := dk_172 (dk_at dksX51_part_2 17 rfl rfl)
abbrev cX51_run : ByteArray := prog_60_method_37_code
def yX51_run : MethodName := ⟨RX51, "run", "(J)I"⟩
def dkwX51_run_2 : List UInt8 := [3, 3, 182, 0, 235, 62, 29, 2, 160, 0, 10, 42, 180, 0, 179, 167, 0, 6, 2, 29, 100, 172]
abbrev dktX51_run_2 : List UInt8 := dkwX51_run_2 ++ []
def dkwX51_run_1 : List UInt8 := [180, 0, 32, 29, 46, 42, 180, 0, 55, 160, 0, 8, 42, 29, 182, 0, 231, 132, 3, 1, 167, 255, 227, 42]
abbrev dktX51_run_1 : List UInt8 := dkwX51_run_1 ++ dktX51_run_2
def dkwX51_run_0 : List UInt8 := [42, 182, 0, 176, 42, 42, 31, 182, 0, 227, 181, 0, 55, 3, 62, 29, 42, 180, 0, 162, 162, 0, 27, 42]
abbrev dktX51_run_0 : List UInt8 := dkwX51_run_0 ++ dktX51_run_1
theorem dksX51_run_0 : cX51_run.data.toList.drop 0 = dktX51_run_0 := by decide +kernel
theorem dksX51_run_1 : cX51_run.data.toList.drop 24 = dktX51_run_1 := dk_seg dksX51_run_0 24 rfl rfl
theorem dksX51_run_2 : cX51_run.data.toList.drop 48 = dktX51_run_2 := dk_seg dksX51_run_1 24 rfl rfl
theorem dX51_run_0 : decode cX51_run 0 = .ok (.aload_n 0, 1) := dk_42 (dk_at dksX51_run_0 0 rfl rfl)
theorem dX51_run_1 : decode cX51_run 1 = .ok (.invokevirtual 176, 3) := dk_182 0 176 (dk_at dksX51_run_0 1 rfl rfl)
theorem dX51_run_4 : decode cX51_run 4 = .ok (.aload_n 0, 1) := dk_42 (dk_at dksX51_run_0 4 rfl rfl)
theorem dX51_run_5 : decode cX51_run 5 = .ok (.aload_n 0, 1) := dk_42 (dk_at dksX51_run_0 5 rfl rfl)
theorem dX51_run_6 : decode cX51_run 6 = .ok (.lload_n 1, 1) := dk_31 (dk_at dksX51_run_0 6 rfl rfl)
theorem dX51_run_7 : decode cX51_run 7 = .ok (.invokevirtual 227, 3) := dk_182 0 227 (dk_at dksX51_run_0 7 rfl rfl)
theorem dX51_run_10 : decode cX51_run 10 = .ok (.putfield 55, 3) := dk_181 0 55 (dk_at dksX51_run_0 10 rfl rfl)
theorem dX51_run_13 : decode cX51_run 13 = .ok (.iconst 0, 1) := dk_3 (dk_at dksX51_run_0 13 rfl rfl)
theorem dX51_run_14 : decode cX51_run 14 = .ok (.istore_n 3, 1) := dk_62 (dk_at dksX51_run_0 14 rfl rfl)
theorem dX51_run_15 : decode cX51_run 15 = .ok (.iload_n 3, 1) := dk_29 (dk_at dksX51_run_0 15 rfl rfl)
theorem dX51_run_16 : decode cX51_run 16 = .ok (.aload_n 0, 1) := dk_42 (dk_at dksX51_run_0 16 rfl rfl)
theorem dX51_run_17 : decode cX51_run 17 = .ok (.getfield 162, 3) := dk_180 0 162 (dk_at dksX51_run_0 17 rfl rfl)
theorem dX51_run_20 : decode cX51_run 20 = .ok (.if_icmp .ge 27, 3) := dk_162 0 27 (dk_at dksX51_run_0 20 rfl rfl)
theorem dX51_run_23 : decode cX51_run 23 = .ok (.aload_n 0, 1) := dk_42 (dk_at dksX51_run_0 23 rfl rfl)
theorem dX51_run_24 : decode cX51_run 24 = .ok (.getfield 32, 3) := dk_180 0 32 (dk_at dksX51_run_1 0 rfl rfl)
theorem dX51_run_27 : decode cX51_run 27 = .ok (.iload_n 3, 1) := dk_29 (dk_at dksX51_run_1 3 rfl rfl)
theorem dX51_run_28 : decode cX51_run 28 = .ok (.iaload, 1) := dk_46 (dk_at dksX51_run_1 4 rfl rfl)
theorem dX51_run_29 : decode cX51_run 29 = .ok (.aload_n 0, 1) := dk_42 (dk_at dksX51_run_1 5 rfl rfl)
theorem dX51_run_30 : decode cX51_run 30 = .ok (.getfield 55, 3) := dk_180 0 55 (dk_at dksX51_run_1 6 rfl rfl)
theorem dX51_run_33 : decode cX51_run 33 = .ok (.if_icmp .ne 8, 3) := dk_160 0 8 (dk_at dksX51_run_1 9 rfl rfl)
theorem dX51_run_36 : decode cX51_run 36 = .ok (.aload_n 0, 1) := dk_42 (dk_at dksX51_run_1 12 rfl rfl)
theorem dX51_run_37 : decode cX51_run 37 = .ok (.iload_n 3, 1) := dk_29 (dk_at dksX51_run_1 13 rfl rfl)
theorem dX51_run_38 : decode cX51_run 38 = .ok (.invokevirtual 231, 3) := dk_182 0 231 (dk_at dksX51_run_1 14 rfl rfl)
theorem dX51_run_41 : decode cX51_run 41 = .ok (.iinc 3 1, 3) := dk_132 3 1 (dk_at dksX51_run_1 17 rfl rfl)
theorem dX51_run_44 : decode cX51_run 44 = .ok (.goto (-29), 3) := dk_167 255 227 (dk_at dksX51_run_1 20 rfl rfl)
theorem dX51_run_47 : decode cX51_run 47 = .ok (.aload_n 0, 1) := dk_42 (dk_at dksX51_run_1 23 rfl rfl)
theorem dX51_run_48 : decode cX51_run 48 = .ok (.iconst 0, 1) := dk_3 (dk_at dksX51_run_2 0 rfl rfl)
theorem dX51_run_49 : decode cX51_run 49 = .ok (.iconst 0, 1) := dk_3 (dk_at dksX51_run_2 1 rfl rfl)
theorem dX51_run_50 : decode cX51_run 50 = .ok (.invokevirtual 235, 3) := dk_182 0 235 (dk_at dksX51_run_2 2 rfl rfl)
theorem dX51_run_53 : decode cX51_run 53 = .ok (.istore_n 3, 1) := dk_62 (dk_at dksX51_run_2 5 rfl rfl)
theorem dX51_run_54 : decode cX51_run 54 = .ok (.iload_n 3, 1) := dk_29 (dk_at dksX51_run_2 6 rfl rfl)
theorem dX51_run_55 : decode cX51_run 55 = .ok (.iconst (-1), 1) := dk_2 (dk_at dksX51_run_2 7 rfl rfl)
theorem dX51_run_56 : decode cX51_run 56 = .ok (.if_icmp .ne 10, 3) := dk_160 0 10 (dk_at dksX51_run_2 8 rfl rfl)
theorem dX51_run_59 : decode cX51_run 59 = .ok (.aload_n 0, 1) := dk_42 (dk_at dksX51_run_2 11 rfl rfl)
theorem dX51_run_60 : decode cX51_run 60 = .ok (.getfield 179, 3) := dk_180 0 179 (dk_at dksX51_run_2 12 rfl rfl)
theorem dX51_run_63 : decode cX51_run 63 = .ok (.goto 6, 3) := dk_167 0 6 (dk_at dksX51_run_2 15 rfl rfl)
theorem dX51_run_66 : decode cX51_run 66 = .ok (.iconst (-1), 1) := dk_2 (dk_at dksX51_run_2 18 rfl rfl)
theorem dX51_run_67 : decode cX51_run 67 = .ok (.iload_n 3, 1) := dk_29 (dk_at dksX51_run_2 19 rfl rfl)
theorem dX51_run_68 : decode cX51_run 68 = .ok (.isub, 1) := dk_100 (dk_at dksX51_run_2 20 rfl rfl)
theorem dX51_run_69 : decode cX51_run 69 = .ok (.ireturn, 1) := dk_172 (dk_at dksX51_run_2 21 rfl rfl)
abbrev cX51_forget : ByteArray := prog_60_method_17_code
def yX51_forget : MethodName := ⟨RX51, "forget", "()V"⟩
def dkwX51_forget_1 : List UInt8 := [79, 132, 1, 1, 167, 255, 240, 177]
abbrev dktX51_forget_1 : List UInt8 := dkwX51_forget_1 ++ []
def dkwX51_forget_0 : List UInt8 := [42, 2, 181, 0, 55, 42, 3, 181, 0, 179, 3, 60, 27, 16, 60, 162, 0, 16, 42, 180, 0, 59, 27, 3]
abbrev dktX51_forget_0 : List UInt8 := dkwX51_forget_0 ++ dktX51_forget_1
theorem dksX51_forget_0 : cX51_forget.data.toList.drop 0 = dktX51_forget_0 := by decide +kernel
theorem dksX51_forget_1 : cX51_forget.data.toList.drop 24 = dktX51_forget_1 := dk_seg dksX51_forget_0 24 rfl rfl
theorem dX51_forget_0 : decode cX51_forget 0 = .ok (.aload_n 0, 1) := dk_42 (dk_at dksX51_forget_0 0 rfl rfl)
theorem dX51_forget_1 : decode cX51_forget 1 = .ok (.iconst (-1), 1) := dk_2 (dk_at dksX51_forget_0 1 rfl rfl)
theorem dX51_forget_2 : decode cX51_forget 2 = .ok (.putfield 55, 3) := dk_181 0 55 (dk_at dksX51_forget_0 2 rfl rfl)
theorem dX51_forget_5 : decode cX51_forget 5 = .ok (.aload_n 0, 1) := dk_42 (dk_at dksX51_forget_0 5 rfl rfl)
theorem dX51_forget_6 : decode cX51_forget 6 = .ok (.iconst 0, 1) := dk_3 (dk_at dksX51_forget_0 6 rfl rfl)
theorem dX51_forget_7 : decode cX51_forget 7 = .ok (.putfield 179, 3) := dk_181 0 179 (dk_at dksX51_forget_0 7 rfl rfl)
theorem dX51_forget_10 : decode cX51_forget 10 = .ok (.iconst 0, 1) := dk_3 (dk_at dksX51_forget_0 10 rfl rfl)
theorem dX51_forget_11 : decode cX51_forget 11 = .ok (.istore_n 1, 1) := dk_60 (dk_at dksX51_forget_0 11 rfl rfl)
theorem dX51_forget_12 : decode cX51_forget 12 = .ok (.iload_n 1, 1) := dk_27 (dk_at dksX51_forget_0 12 rfl rfl)
theorem dX51_forget_13 : decode cX51_forget 13 = .ok (.bipush 60, 2) := dk_16 60 (dk_at dksX51_forget_0 13 rfl rfl)
theorem dX51_forget_15 : decode cX51_forget 15 = .ok (.if_icmp .ge 16, 3) := dk_162 0 16 (dk_at dksX51_forget_0 15 rfl rfl)
theorem dX51_forget_18 : decode cX51_forget 18 = .ok (.aload_n 0, 1) := dk_42 (dk_at dksX51_forget_0 18 rfl rfl)
theorem dX51_forget_19 : decode cX51_forget 19 = .ok (.getfield 59, 3) := dk_180 0 59 (dk_at dksX51_forget_0 19 rfl rfl)
theorem dX51_forget_22 : decode cX51_forget 22 = .ok (.iload_n 1, 1) := dk_27 (dk_at dksX51_forget_0 22 rfl rfl)
theorem dX51_forget_23 : decode cX51_forget 23 = .ok (.iconst 0, 1) := dk_3 (dk_at dksX51_forget_0 23 rfl rfl)
theorem dX51_forget_24 : decode cX51_forget 24 = .ok (.iastore, 1) := dk_79 (dk_at dksX51_forget_1 0 rfl rfl)
theorem dX51_forget_25 : decode cX51_forget 25 = .ok (.iinc 1 1, 3) := dk_132 1 1 (dk_at dksX51_forget_1 1 rfl rfl)
theorem dX51_forget_28 : decode cX51_forget 28 = .ok (.goto (-16), 3) := dk_167 255 240 (dk_at dksX51_forget_1 4 rfl rfl)
theorem dX51_forget_31 : decode cX51_forget 31 = .ok (.return_, 1) := dk_177 (dk_at dksX51_forget_1 7 rfl rfl)
abbrev cX51_edition : ByteArray := prog_60_method_36_code
def yX51_edition : MethodName := ⟨RX51, "edition", "(J)I"⟩
def dkwX51_edition_1 : List UInt8 := [21, 4, 46, 133, 31, 148, 157, 0, 8, 21, 4, 167, 0, 4, 29, 62, 132, 4, 1, 167, 255, 224, 29, 172]
abbrev dktX51_edition_1 : List UInt8 := dkwX51_edition_1 ++ []
def dkwX51_edition_0 : List UInt8 := [42, 3, 181, 0, 68, 2, 62, 3, 54, 4, 21, 4, 42, 180, 0, 165, 162, 0, 29, 42, 180, 0, 35]
abbrev dktX51_edition_0 : List UInt8 := dkwX51_edition_0 ++ dktX51_edition_1
theorem dksX51_edition_0 : cX51_edition.data.toList.drop 0 = dktX51_edition_0 := by decide +kernel
theorem dksX51_edition_1 : cX51_edition.data.toList.drop 23 = dktX51_edition_1 := dk_seg dksX51_edition_0 23 rfl rfl
theorem dX51_edition_0 : decode cX51_edition 0 = .ok (.aload_n 0, 1) := dk_42 (dk_at dksX51_edition_0 0 rfl rfl)
theorem dX51_edition_1 : decode cX51_edition 1 = .ok (.iconst 0, 1) := dk_3 (dk_at dksX51_edition_0 1 rfl rfl)
theorem dX51_edition_2 : decode cX51_edition 2 = .ok (.putfield 68, 3) := dk_181 0 68 (dk_at dksX51_edition_0 2 rfl rfl)
theorem dX51_edition_5 : decode cX51_edition 5 = .ok (.iconst (-1), 1) := dk_2 (dk_at dksX51_edition_0 5 rfl rfl)
theorem dX51_edition_6 : decode cX51_edition 6 = .ok (.istore_n 3, 1) := dk_62 (dk_at dksX51_edition_0 6 rfl rfl)
theorem dX51_edition_7 : decode cX51_edition 7 = .ok (.iconst 0, 1) := dk_3 (dk_at dksX51_edition_0 7 rfl rfl)
theorem dX51_edition_8 : decode cX51_edition 8 = .ok (.istore 4, 2) := dk_54 4 (dk_at dksX51_edition_0 8 rfl rfl)
theorem dX51_edition_10 : decode cX51_edition 10 = .ok (.iload 4, 2) := dk_21 4 (dk_at dksX51_edition_0 10 rfl rfl)
theorem dX51_edition_12 : decode cX51_edition 12 = .ok (.aload_n 0, 1) := dk_42 (dk_at dksX51_edition_0 12 rfl rfl)
theorem dX51_edition_13 : decode cX51_edition 13 = .ok (.getfield 165, 3) := dk_180 0 165 (dk_at dksX51_edition_0 13 rfl rfl)
theorem dX51_edition_16 : decode cX51_edition 16 = .ok (.if_icmp .ge 29, 3) := dk_162 0 29 (dk_at dksX51_edition_0 16 rfl rfl)
theorem dX51_edition_19 : decode cX51_edition 19 = .ok (.aload_n 0, 1) := dk_42 (dk_at dksX51_edition_0 19 rfl rfl)
theorem dX51_edition_20 : decode cX51_edition 20 = .ok (.getfield 35, 3) := dk_180 0 35 (dk_at dksX51_edition_0 20 rfl rfl)
theorem dX51_edition_23 : decode cX51_edition 23 = .ok (.iload 4, 2) := dk_21 4 (dk_at dksX51_edition_1 0 rfl rfl)
theorem dX51_edition_25 : decode cX51_edition 25 = .ok (.iaload, 1) := dk_46 (dk_at dksX51_edition_1 2 rfl rfl)
theorem dX51_edition_26 : decode cX51_edition 26 = .ok (.i2l, 1) := dk_133 (dk_at dksX51_edition_1 3 rfl rfl)
theorem dX51_edition_27 : decode cX51_edition 27 = .ok (.lload_n 1, 1) := dk_31 (dk_at dksX51_edition_1 4 rfl rfl)
theorem dX51_edition_28 : decode cX51_edition 28 = .ok (.lcmp, 1) := dk_148 (dk_at dksX51_edition_1 5 rfl rfl)
theorem dX51_edition_29 : decode cX51_edition 29 = .ok (.ifCond .gt 8, 3) := dk_157 0 8 (dk_at dksX51_edition_1 6 rfl rfl)
theorem dX51_edition_32 : decode cX51_edition 32 = .ok (.iload 4, 2) := dk_21 4 (dk_at dksX51_edition_1 9 rfl rfl)
theorem dX51_edition_34 : decode cX51_edition 34 = .ok (.goto 4, 3) := dk_167 0 4 (dk_at dksX51_edition_1 11 rfl rfl)
theorem dX51_edition_37 : decode cX51_edition 37 = .ok (.iload_n 3, 1) := dk_29 (dk_at dksX51_edition_1 14 rfl rfl)
theorem dX51_edition_38 : decode cX51_edition 38 = .ok (.istore_n 3, 1) := dk_62 (dk_at dksX51_edition_1 15 rfl rfl)
theorem dX51_edition_39 : decode cX51_edition 39 = .ok (.iinc 4 1, 3) := dk_132 4 1 (dk_at dksX51_edition_1 16 rfl rfl)
theorem dX51_edition_42 : decode cX51_edition 42 = .ok (.goto (-32), 3) := dk_167 255 224 (dk_at dksX51_edition_1 19 rfl rfl)
theorem dX51_edition_45 : decode cX51_edition 45 = .ok (.iload_n 3, 1) := dk_29 (dk_at dksX51_edition_1 22 rfl rfl)
theorem dX51_edition_46 : decode cX51_edition 46 = .ok (.ireturn, 1) := dk_172 (dk_at dksX51_edition_1 23 rfl rfl)
abbrev cX51_judge : ByteArray := prog_60_method_34_code
def yX51_judge : MethodName := ⟨RX51, "judge", "(I)V"⟩
def dkwX51_judge_8 : List UInt8 := [177]
abbrev dktX51_judge_8 : List UInt8 := dkwX51_judge_8 ++ []
def dkwX51_judge_7 : List UInt8 := [42, 180, 0, 65, 42, 180, 0, 179, 42, 27, 182, 0, 198, 79, 42, 89, 180, 0, 179, 4, 96, 181, 0, 179]
abbrev dktX51_judge_7 : List UInt8 := dkwX51_judge_7 ++ dktX51_judge_8
def dkwX51_judge_6 : List UInt8 := [42, 180, 0, 59, 27, 28, 79, 28, 4, 160, 0, 39, 42, 42, 27, 182, 0, 198, 182, 0, 224, 154, 0, 27]
abbrev dktX51_judge_6 : List UInt8 := dkwX51_judge_6 ++ dktX51_judge_7
def dkwX51_judge_5 : List UInt8 := [167, 0, 14, 21, 4, 5, 160, 0, 7, 5, 167, 0, 4, 28, 61, 42, 29, 182, 0, 204, 62, 167, 255, 148]
abbrev dktX51_judge_5 : List UInt8 := dkwX51_judge_5 ++ dktX51_judge_6
def dkwX51_judge_4 : List UInt8 := [160, 0, 13, 42, 180, 0, 62, 27, 42, 180, 0, 188, 79, 21, 4, 153, 0, 7, 28, 154, 0, 7, 3]
abbrev dktX51_judge_4 : List UInt8 := dkwX51_judge_4 ++ dktX51_judge_5
def dkwX51_judge_3 : List UInt8 := [167, 0, 8, 42, 29, 182, 0, 221, 54, 4, 21, 4, 5, 160, 0, 23, 42, 180, 0, 62, 27, 46, 2]
abbrev dktX51_judge_3 : List UInt8 := dkwX51_judge_3 ++ dktX51_judge_4
def dkwX51_judge_2 : List UInt8 := [29, 182, 0, 214, 167, 0, 28, 42, 29, 20, 0, 130, 182, 0, 168, 153, 0, 12, 42, 29, 27, 182, 0, 217]
abbrev dktX51_judge_2 : List UInt8 := dkwX51_judge_2 ++ dktX51_judge_3
def dkwX51_judge_1 : List UInt8 := [79, 42, 27, 182, 0, 201, 62, 29, 2, 159, 0, 109, 42, 29, 20, 0, 124, 182, 0, 168, 153, 0, 11, 42]
abbrev dktX51_judge_1 : List UInt8 := dkwX51_judge_1 ++ dktX51_judge_2
def dkwX51_judge_0 : List UInt8 := [42, 27, 182, 0, 211, 153, 0, 11, 42, 180, 0, 59, 27, 6, 79, 177, 4, 61, 42, 180, 0, 62, 27, 2]
abbrev dktX51_judge_0 : List UInt8 := dkwX51_judge_0 ++ dktX51_judge_1
theorem dksX51_judge_0 : cX51_judge.data.toList.drop 0 = dktX51_judge_0 := by decide +kernel
theorem dksX51_judge_1 : cX51_judge.data.toList.drop 24 = dktX51_judge_1 := dk_seg dksX51_judge_0 24 rfl rfl
theorem dksX51_judge_2 : cX51_judge.data.toList.drop 48 = dktX51_judge_2 := dk_seg dksX51_judge_1 24 rfl rfl
theorem dksX51_judge_3 : cX51_judge.data.toList.drop 72 = dktX51_judge_3 := dk_seg dksX51_judge_2 24 rfl rfl
theorem dksX51_judge_4 : cX51_judge.data.toList.drop 95 = dktX51_judge_4 := dk_seg dksX51_judge_3 23 rfl rfl
theorem dksX51_judge_5 : cX51_judge.data.toList.drop 118 = dktX51_judge_5 := dk_seg dksX51_judge_4 23 rfl rfl
theorem dksX51_judge_6 : cX51_judge.data.toList.drop 142 = dktX51_judge_6 := dk_seg dksX51_judge_5 24 rfl rfl
theorem dksX51_judge_7 : cX51_judge.data.toList.drop 166 = dktX51_judge_7 := dk_seg dksX51_judge_6 24 rfl rfl
theorem dksX51_judge_8 : cX51_judge.data.toList.drop 190 = dktX51_judge_8 := dk_seg dksX51_judge_7 24 rfl rfl
theorem dX51_judge_0 : decode cX51_judge 0 = .ok (.aload_n 0, 1) := dk_42 (dk_at dksX51_judge_0 0 rfl rfl)
theorem dX51_judge_1 : decode cX51_judge 1 = .ok (.iload_n 1, 1) := dk_27 (dk_at dksX51_judge_0 1 rfl rfl)
theorem dX51_judge_2 : decode cX51_judge 2 = .ok (.invokevirtual 211, 3) := dk_182 0 211 (dk_at dksX51_judge_0 2 rfl rfl)
theorem dX51_judge_5 : decode cX51_judge 5 = .ok (.ifCond .eq 11, 3) := dk_153 0 11 (dk_at dksX51_judge_0 5 rfl rfl)
theorem dX51_judge_8 : decode cX51_judge 8 = .ok (.aload_n 0, 1) := dk_42 (dk_at dksX51_judge_0 8 rfl rfl)
theorem dX51_judge_9 : decode cX51_judge 9 = .ok (.getfield 59, 3) := dk_180 0 59 (dk_at dksX51_judge_0 9 rfl rfl)
theorem dX51_judge_12 : decode cX51_judge 12 = .ok (.iload_n 1, 1) := dk_27 (dk_at dksX51_judge_0 12 rfl rfl)
theorem dX51_judge_13 : decode cX51_judge 13 = .ok (.iconst 3, 1) := dk_6 (dk_at dksX51_judge_0 13 rfl rfl)
theorem dX51_judge_14 : decode cX51_judge 14 = .ok (.iastore, 1) := dk_79 (dk_at dksX51_judge_0 14 rfl rfl)
theorem dX51_judge_15 : decode cX51_judge 15 = .ok (.return_, 1) := dk_177 (dk_at dksX51_judge_0 15 rfl rfl)
theorem dX51_judge_16 : decode cX51_judge 16 = .ok (.iconst 1, 1) := dk_4 (dk_at dksX51_judge_0 16 rfl rfl)
theorem dX51_judge_17 : decode cX51_judge 17 = .ok (.istore_n 2, 1) := dk_61 (dk_at dksX51_judge_0 17 rfl rfl)
theorem dX51_judge_18 : decode cX51_judge 18 = .ok (.aload_n 0, 1) := dk_42 (dk_at dksX51_judge_0 18 rfl rfl)
theorem dX51_judge_19 : decode cX51_judge 19 = .ok (.getfield 62, 3) := dk_180 0 62 (dk_at dksX51_judge_0 19 rfl rfl)
theorem dX51_judge_22 : decode cX51_judge 22 = .ok (.iload_n 1, 1) := dk_27 (dk_at dksX51_judge_0 22 rfl rfl)
theorem dX51_judge_23 : decode cX51_judge 23 = .ok (.iconst (-1), 1) := dk_2 (dk_at dksX51_judge_0 23 rfl rfl)
theorem dX51_judge_24 : decode cX51_judge 24 = .ok (.iastore, 1) := dk_79 (dk_at dksX51_judge_1 0 rfl rfl)
theorem dX51_judge_25 : decode cX51_judge 25 = .ok (.aload_n 0, 1) := dk_42 (dk_at dksX51_judge_1 1 rfl rfl)
theorem dX51_judge_26 : decode cX51_judge 26 = .ok (.iload_n 1, 1) := dk_27 (dk_at dksX51_judge_1 2 rfl rfl)
theorem dX51_judge_27 : decode cX51_judge 27 = .ok (.invokevirtual 201, 3) := dk_182 0 201 (dk_at dksX51_judge_1 3 rfl rfl)
theorem dX51_judge_30 : decode cX51_judge 30 = .ok (.istore_n 3, 1) := dk_62 (dk_at dksX51_judge_1 6 rfl rfl)
theorem dX51_judge_31 : decode cX51_judge 31 = .ok (.iload_n 3, 1) := dk_29 (dk_at dksX51_judge_1 7 rfl rfl)
theorem dX51_judge_32 : decode cX51_judge 32 = .ok (.iconst (-1), 1) := dk_2 (dk_at dksX51_judge_1 8 rfl rfl)
theorem dX51_judge_33 : decode cX51_judge 33 = .ok (.if_icmp .eq 109, 3) := dk_159 0 109 (dk_at dksX51_judge_1 9 rfl rfl)
theorem dX51_judge_36 : decode cX51_judge 36 = .ok (.aload_n 0, 1) := dk_42 (dk_at dksX51_judge_1 12 rfl rfl)
theorem dX51_judge_37 : decode cX51_judge 37 = .ok (.iload_n 3, 1) := dk_29 (dk_at dksX51_judge_1 13 rfl rfl)
theorem dX51_judge_38 : decode cX51_judge 38 = .ok (.ldc2_w 124, 3) := dk_20 0 124 (dk_at dksX51_judge_1 14 rfl rfl)
theorem dX51_judge_41 : decode cX51_judge 41 = .ok (.invokevirtual 168, 3) := dk_182 0 168 (dk_at dksX51_judge_1 17 rfl rfl)
theorem dX51_judge_44 : decode cX51_judge 44 = .ok (.ifCond .eq 11, 3) := dk_153 0 11 (dk_at dksX51_judge_1 20 rfl rfl)
theorem dX51_judge_47 : decode cX51_judge 47 = .ok (.aload_n 0, 1) := dk_42 (dk_at dksX51_judge_1 23 rfl rfl)
theorem dX51_judge_48 : decode cX51_judge 48 = .ok (.iload_n 3, 1) := dk_29 (dk_at dksX51_judge_2 0 rfl rfl)
theorem dX51_judge_49 : decode cX51_judge 49 = .ok (.invokevirtual 214, 3) := dk_182 0 214 (dk_at dksX51_judge_2 1 rfl rfl)
theorem dX51_judge_52 : decode cX51_judge 52 = .ok (.goto 28, 3) := dk_167 0 28 (dk_at dksX51_judge_2 4 rfl rfl)
theorem dX51_judge_55 : decode cX51_judge 55 = .ok (.aload_n 0, 1) := dk_42 (dk_at dksX51_judge_2 7 rfl rfl)
theorem dX51_judge_56 : decode cX51_judge 56 = .ok (.iload_n 3, 1) := dk_29 (dk_at dksX51_judge_2 8 rfl rfl)
theorem dX51_judge_57 : decode cX51_judge 57 = .ok (.ldc2_w 130, 3) := dk_20 0 130 (dk_at dksX51_judge_2 9 rfl rfl)
theorem dX51_judge_60 : decode cX51_judge 60 = .ok (.invokevirtual 168, 3) := dk_182 0 168 (dk_at dksX51_judge_2 12 rfl rfl)
theorem dX51_judge_63 : decode cX51_judge 63 = .ok (.ifCond .eq 12, 3) := dk_153 0 12 (dk_at dksX51_judge_2 15 rfl rfl)
theorem dX51_judge_66 : decode cX51_judge 66 = .ok (.aload_n 0, 1) := dk_42 (dk_at dksX51_judge_2 18 rfl rfl)
theorem dX51_judge_67 : decode cX51_judge 67 = .ok (.iload_n 3, 1) := dk_29 (dk_at dksX51_judge_2 19 rfl rfl)
theorem dX51_judge_68 : decode cX51_judge 68 = .ok (.iload_n 1, 1) := dk_27 (dk_at dksX51_judge_2 20 rfl rfl)
theorem dX51_judge_69 : decode cX51_judge 69 = .ok (.invokevirtual 217, 3) := dk_182 0 217 (dk_at dksX51_judge_2 21 rfl rfl)
theorem dX51_judge_72 : decode cX51_judge 72 = .ok (.goto 8, 3) := dk_167 0 8 (dk_at dksX51_judge_3 0 rfl rfl)
theorem dX51_judge_75 : decode cX51_judge 75 = .ok (.aload_n 0, 1) := dk_42 (dk_at dksX51_judge_3 3 rfl rfl)
theorem dX51_judge_76 : decode cX51_judge 76 = .ok (.iload_n 3, 1) := dk_29 (dk_at dksX51_judge_3 4 rfl rfl)
theorem dX51_judge_77 : decode cX51_judge 77 = .ok (.invokevirtual 221, 3) := dk_182 0 221 (dk_at dksX51_judge_3 5 rfl rfl)
theorem dX51_judge_80 : decode cX51_judge 80 = .ok (.istore 4, 2) := dk_54 4 (dk_at dksX51_judge_3 8 rfl rfl)
theorem dX51_judge_82 : decode cX51_judge 82 = .ok (.iload 4, 2) := dk_21 4 (dk_at dksX51_judge_3 10 rfl rfl)
theorem dX51_judge_84 : decode cX51_judge 84 = .ok (.iconst 2, 1) := dk_5 (dk_at dksX51_judge_3 12 rfl rfl)
theorem dX51_judge_85 : decode cX51_judge 85 = .ok (.if_icmp .ne 23, 3) := dk_160 0 23 (dk_at dksX51_judge_3 13 rfl rfl)
theorem dX51_judge_88 : decode cX51_judge 88 = .ok (.aload_n 0, 1) := dk_42 (dk_at dksX51_judge_3 16 rfl rfl)
theorem dX51_judge_89 : decode cX51_judge 89 = .ok (.getfield 62, 3) := dk_180 0 62 (dk_at dksX51_judge_3 17 rfl rfl)
theorem dX51_judge_92 : decode cX51_judge 92 = .ok (.iload_n 1, 1) := dk_27 (dk_at dksX51_judge_3 20 rfl rfl)
theorem dX51_judge_93 : decode cX51_judge 93 = .ok (.iaload, 1) := dk_46 (dk_at dksX51_judge_3 21 rfl rfl)
theorem dX51_judge_94 : decode cX51_judge 94 = .ok (.iconst (-1), 1) := dk_2 (dk_at dksX51_judge_3 22 rfl rfl)
theorem dX51_judge_95 : decode cX51_judge 95 = .ok (.if_icmp .ne 13, 3) := dk_160 0 13 (dk_at dksX51_judge_4 0 rfl rfl)
theorem dX51_judge_98 : decode cX51_judge 98 = .ok (.aload_n 0, 1) := dk_42 (dk_at dksX51_judge_4 3 rfl rfl)
theorem dX51_judge_99 : decode cX51_judge 99 = .ok (.getfield 62, 3) := dk_180 0 62 (dk_at dksX51_judge_4 4 rfl rfl)
theorem dX51_judge_102 : decode cX51_judge 102 = .ok (.iload_n 1, 1) := dk_27 (dk_at dksX51_judge_4 7 rfl rfl)
theorem dX51_judge_103 : decode cX51_judge 103 = .ok (.aload_n 0, 1) := dk_42 (dk_at dksX51_judge_4 8 rfl rfl)
theorem dX51_judge_104 : decode cX51_judge 104 = .ok (.getfield 188, 3) := dk_180 0 188 (dk_at dksX51_judge_4 9 rfl rfl)
theorem dX51_judge_107 : decode cX51_judge 107 = .ok (.iastore, 1) := dk_79 (dk_at dksX51_judge_4 12 rfl rfl)
theorem dX51_judge_108 : decode cX51_judge 108 = .ok (.iload 4, 2) := dk_21 4 (dk_at dksX51_judge_4 13 rfl rfl)
theorem dX51_judge_110 : decode cX51_judge 110 = .ok (.ifCond .eq 7, 3) := dk_153 0 7 (dk_at dksX51_judge_4 15 rfl rfl)
theorem dX51_judge_113 : decode cX51_judge 113 = .ok (.iload_n 2, 1) := dk_28 (dk_at dksX51_judge_4 18 rfl rfl)
theorem dX51_judge_114 : decode cX51_judge 114 = .ok (.ifCond .ne 7, 3) := dk_154 0 7 (dk_at dksX51_judge_4 19 rfl rfl)
theorem dX51_judge_117 : decode cX51_judge 117 = .ok (.iconst 0, 1) := dk_3 (dk_at dksX51_judge_4 22 rfl rfl)
theorem dX51_judge_118 : decode cX51_judge 118 = .ok (.goto 14, 3) := dk_167 0 14 (dk_at dksX51_judge_5 0 rfl rfl)
theorem dX51_judge_121 : decode cX51_judge 121 = .ok (.iload 4, 2) := dk_21 4 (dk_at dksX51_judge_5 3 rfl rfl)
theorem dX51_judge_123 : decode cX51_judge 123 = .ok (.iconst 2, 1) := dk_5 (dk_at dksX51_judge_5 5 rfl rfl)
theorem dX51_judge_124 : decode cX51_judge 124 = .ok (.if_icmp .ne 7, 3) := dk_160 0 7 (dk_at dksX51_judge_5 6 rfl rfl)
theorem dX51_judge_127 : decode cX51_judge 127 = .ok (.iconst 2, 1) := dk_5 (dk_at dksX51_judge_5 9 rfl rfl)
theorem dX51_judge_128 : decode cX51_judge 128 = .ok (.goto 4, 3) := dk_167 0 4 (dk_at dksX51_judge_5 10 rfl rfl)
theorem dX51_judge_131 : decode cX51_judge 131 = .ok (.iload_n 2, 1) := dk_28 (dk_at dksX51_judge_5 13 rfl rfl)
theorem dX51_judge_132 : decode cX51_judge 132 = .ok (.istore_n 2, 1) := dk_61 (dk_at dksX51_judge_5 14 rfl rfl)
theorem dX51_judge_133 : decode cX51_judge 133 = .ok (.aload_n 0, 1) := dk_42 (dk_at dksX51_judge_5 15 rfl rfl)
theorem dX51_judge_134 : decode cX51_judge 134 = .ok (.iload_n 3, 1) := dk_29 (dk_at dksX51_judge_5 16 rfl rfl)
theorem dX51_judge_135 : decode cX51_judge 135 = .ok (.invokevirtual 204, 3) := dk_182 0 204 (dk_at dksX51_judge_5 17 rfl rfl)
theorem dX51_judge_138 : decode cX51_judge 138 = .ok (.istore_n 3, 1) := dk_62 (dk_at dksX51_judge_5 20 rfl rfl)
theorem dX51_judge_139 : decode cX51_judge 139 = .ok (.goto (-108), 3) := dk_167 255 148 (dk_at dksX51_judge_5 21 rfl rfl)
theorem dX51_judge_142 : decode cX51_judge 142 = .ok (.aload_n 0, 1) := dk_42 (dk_at dksX51_judge_6 0 rfl rfl)
theorem dX51_judge_143 : decode cX51_judge 143 = .ok (.getfield 59, 3) := dk_180 0 59 (dk_at dksX51_judge_6 1 rfl rfl)
theorem dX51_judge_146 : decode cX51_judge 146 = .ok (.iload_n 1, 1) := dk_27 (dk_at dksX51_judge_6 4 rfl rfl)
theorem dX51_judge_147 : decode cX51_judge 147 = .ok (.iload_n 2, 1) := dk_28 (dk_at dksX51_judge_6 5 rfl rfl)
theorem dX51_judge_148 : decode cX51_judge 148 = .ok (.iastore, 1) := dk_79 (dk_at dksX51_judge_6 6 rfl rfl)
theorem dX51_judge_149 : decode cX51_judge 149 = .ok (.iload_n 2, 1) := dk_28 (dk_at dksX51_judge_6 7 rfl rfl)
theorem dX51_judge_150 : decode cX51_judge 150 = .ok (.iconst 1, 1) := dk_4 (dk_at dksX51_judge_6 8 rfl rfl)
theorem dX51_judge_151 : decode cX51_judge 151 = .ok (.if_icmp .ne 39, 3) := dk_160 0 39 (dk_at dksX51_judge_6 9 rfl rfl)
theorem dX51_judge_154 : decode cX51_judge 154 = .ok (.aload_n 0, 1) := dk_42 (dk_at dksX51_judge_6 12 rfl rfl)
theorem dX51_judge_155 : decode cX51_judge 155 = .ok (.aload_n 0, 1) := dk_42 (dk_at dksX51_judge_6 13 rfl rfl)
theorem dX51_judge_156 : decode cX51_judge 156 = .ok (.iload_n 1, 1) := dk_27 (dk_at dksX51_judge_6 14 rfl rfl)
theorem dX51_judge_157 : decode cX51_judge 157 = .ok (.invokevirtual 198, 3) := dk_182 0 198 (dk_at dksX51_judge_6 15 rfl rfl)
theorem dX51_judge_160 : decode cX51_judge 160 = .ok (.invokevirtual 224, 3) := dk_182 0 224 (dk_at dksX51_judge_6 18 rfl rfl)
theorem dX51_judge_163 : decode cX51_judge 163 = .ok (.ifCond .ne 27, 3) := dk_154 0 27 (dk_at dksX51_judge_6 21 rfl rfl)
theorem dX51_judge_166 : decode cX51_judge 166 = .ok (.aload_n 0, 1) := dk_42 (dk_at dksX51_judge_7 0 rfl rfl)
theorem dX51_judge_167 : decode cX51_judge 167 = .ok (.getfield 65, 3) := dk_180 0 65 (dk_at dksX51_judge_7 1 rfl rfl)
theorem dX51_judge_170 : decode cX51_judge 170 = .ok (.aload_n 0, 1) := dk_42 (dk_at dksX51_judge_7 4 rfl rfl)
theorem dX51_judge_171 : decode cX51_judge 171 = .ok (.getfield 179, 3) := dk_180 0 179 (dk_at dksX51_judge_7 5 rfl rfl)
theorem dX51_judge_174 : decode cX51_judge 174 = .ok (.aload_n 0, 1) := dk_42 (dk_at dksX51_judge_7 8 rfl rfl)
theorem dX51_judge_175 : decode cX51_judge 175 = .ok (.iload_n 1, 1) := dk_27 (dk_at dksX51_judge_7 9 rfl rfl)
theorem dX51_judge_176 : decode cX51_judge 176 = .ok (.invokevirtual 198, 3) := dk_182 0 198 (dk_at dksX51_judge_7 10 rfl rfl)
theorem dX51_judge_179 : decode cX51_judge 179 = .ok (.iastore, 1) := dk_79 (dk_at dksX51_judge_7 13 rfl rfl)
theorem dX51_judge_180 : decode cX51_judge 180 = .ok (.aload_n 0, 1) := dk_42 (dk_at dksX51_judge_7 14 rfl rfl)
theorem dX51_judge_181 : decode cX51_judge 181 = .ok (.dup, 1) := dk_89 (dk_at dksX51_judge_7 15 rfl rfl)
theorem dX51_judge_182 : decode cX51_judge 182 = .ok (.getfield 179, 3) := dk_180 0 179 (dk_at dksX51_judge_7 16 rfl rfl)
theorem dX51_judge_185 : decode cX51_judge 185 = .ok (.iconst 1, 1) := dk_4 (dk_at dksX51_judge_7 19 rfl rfl)
theorem dX51_judge_186 : decode cX51_judge 186 = .ok (.iadd, 1) := dk_96 (dk_at dksX51_judge_7 20 rfl rfl)
theorem dX51_judge_187 : decode cX51_judge 187 = .ok (.putfield 179, 3) := dk_181 0 179 (dk_at dksX51_judge_7 21 rfl rfl)
theorem dX51_judge_190 : decode cX51_judge 190 = .ok (.return_, 1) := dk_177 (dk_at dksX51_judge_8 0 rfl rfl)
abbrev cX51_isPassed : ByteArray := prog_60_method_33_code
def yX51_isPassed : MethodName := ⟨RX51, "isPassed", "(I)Z"⟩
def dkwX51_isPassed_3 : List UInt8 := [132, 3, 1, 167, 255, 198, 28, 172]
abbrev dktX51_isPassed_3 : List UInt8 := dkwX51_isPassed_3 ++ []
def dkwX51_isPassed_2 : List UInt8 := [27, 182, 0, 198, 160, 0, 16, 42, 29, 4, 182, 0, 207, 153, 0, 7, 4, 167, 0, 4, 3, 61]
abbrev dktX51_isPassed_2 : List UInt8 := dkwX51_isPassed_2 ++ dktX51_isPassed_3
def dkwX51_isPassed_1 : List UInt8 := [154, 0, 40, 42, 180, 0, 32, 29, 46, 42, 180, 0, 32, 27, 46, 160, 0, 29, 42, 29, 182, 0, 198, 42]
abbrev dktX51_isPassed_1 : List UInt8 := dkwX51_isPassed_1 ++ dktX51_isPassed_2
def dkwX51_isPassed_0 : List UInt8 := [42, 27, 3, 182, 0, 207, 153, 0, 5, 3, 172, 3, 61, 3, 62, 29, 42, 180, 0, 162, 162, 0, 56, 28]
abbrev dktX51_isPassed_0 : List UInt8 := dkwX51_isPassed_0 ++ dktX51_isPassed_1
theorem dksX51_isPassed_0 : cX51_isPassed.data.toList.drop 0 = dktX51_isPassed_0 := by decide +kernel
theorem dksX51_isPassed_1 : cX51_isPassed.data.toList.drop 24 = dktX51_isPassed_1 := dk_seg dksX51_isPassed_0 24 rfl rfl
theorem dksX51_isPassed_2 : cX51_isPassed.data.toList.drop 48 = dktX51_isPassed_2 := dk_seg dksX51_isPassed_1 24 rfl rfl
theorem dksX51_isPassed_3 : cX51_isPassed.data.toList.drop 70 = dktX51_isPassed_3 := dk_seg dksX51_isPassed_2 22 rfl rfl
theorem dX51_isPassed_0 : decode cX51_isPassed 0 = .ok (.aload_n 0, 1) := dk_42 (dk_at dksX51_isPassed_0 0 rfl rfl)
theorem dX51_isPassed_1 : decode cX51_isPassed 1 = .ok (.iload_n 1, 1) := dk_27 (dk_at dksX51_isPassed_0 1 rfl rfl)
theorem dX51_isPassed_2 : decode cX51_isPassed 2 = .ok (.iconst 0, 1) := dk_3 (dk_at dksX51_isPassed_0 2 rfl rfl)
theorem dX51_isPassed_3 : decode cX51_isPassed 3 = .ok (.invokevirtual 207, 3) := dk_182 0 207 (dk_at dksX51_isPassed_0 3 rfl rfl)
theorem dX51_isPassed_6 : decode cX51_isPassed 6 = .ok (.ifCond .eq 5, 3) := dk_153 0 5 (dk_at dksX51_isPassed_0 6 rfl rfl)
theorem dX51_isPassed_9 : decode cX51_isPassed 9 = .ok (.iconst 0, 1) := dk_3 (dk_at dksX51_isPassed_0 9 rfl rfl)
theorem dX51_isPassed_10 : decode cX51_isPassed 10 = .ok (.ireturn, 1) := dk_172 (dk_at dksX51_isPassed_0 10 rfl rfl)
theorem dX51_isPassed_11 : decode cX51_isPassed 11 = .ok (.iconst 0, 1) := dk_3 (dk_at dksX51_isPassed_0 11 rfl rfl)
theorem dX51_isPassed_12 : decode cX51_isPassed 12 = .ok (.istore_n 2, 1) := dk_61 (dk_at dksX51_isPassed_0 12 rfl rfl)
theorem dX51_isPassed_13 : decode cX51_isPassed 13 = .ok (.iconst 0, 1) := dk_3 (dk_at dksX51_isPassed_0 13 rfl rfl)
theorem dX51_isPassed_14 : decode cX51_isPassed 14 = .ok (.istore_n 3, 1) := dk_62 (dk_at dksX51_isPassed_0 14 rfl rfl)
theorem dX51_isPassed_15 : decode cX51_isPassed 15 = .ok (.iload_n 3, 1) := dk_29 (dk_at dksX51_isPassed_0 15 rfl rfl)
theorem dX51_isPassed_16 : decode cX51_isPassed 16 = .ok (.aload_n 0, 1) := dk_42 (dk_at dksX51_isPassed_0 16 rfl rfl)
theorem dX51_isPassed_17 : decode cX51_isPassed 17 = .ok (.getfield 162, 3) := dk_180 0 162 (dk_at dksX51_isPassed_0 17 rfl rfl)
theorem dX51_isPassed_20 : decode cX51_isPassed 20 = .ok (.if_icmp .ge 56, 3) := dk_162 0 56 (dk_at dksX51_isPassed_0 20 rfl rfl)
theorem dX51_isPassed_23 : decode cX51_isPassed 23 = .ok (.iload_n 2, 1) := dk_28 (dk_at dksX51_isPassed_0 23 rfl rfl)
theorem dX51_isPassed_24 : decode cX51_isPassed 24 = .ok (.ifCond .ne 40, 3) := dk_154 0 40 (dk_at dksX51_isPassed_1 0 rfl rfl)
theorem dX51_isPassed_27 : decode cX51_isPassed 27 = .ok (.aload_n 0, 1) := dk_42 (dk_at dksX51_isPassed_1 3 rfl rfl)
theorem dX51_isPassed_28 : decode cX51_isPassed 28 = .ok (.getfield 32, 3) := dk_180 0 32 (dk_at dksX51_isPassed_1 4 rfl rfl)
theorem dX51_isPassed_31 : decode cX51_isPassed 31 = .ok (.iload_n 3, 1) := dk_29 (dk_at dksX51_isPassed_1 7 rfl rfl)
theorem dX51_isPassed_32 : decode cX51_isPassed 32 = .ok (.iaload, 1) := dk_46 (dk_at dksX51_isPassed_1 8 rfl rfl)
theorem dX51_isPassed_33 : decode cX51_isPassed 33 = .ok (.aload_n 0, 1) := dk_42 (dk_at dksX51_isPassed_1 9 rfl rfl)
theorem dX51_isPassed_34 : decode cX51_isPassed 34 = .ok (.getfield 32, 3) := dk_180 0 32 (dk_at dksX51_isPassed_1 10 rfl rfl)
theorem dX51_isPassed_37 : decode cX51_isPassed 37 = .ok (.iload_n 1, 1) := dk_27 (dk_at dksX51_isPassed_1 13 rfl rfl)
theorem dX51_isPassed_38 : decode cX51_isPassed 38 = .ok (.iaload, 1) := dk_46 (dk_at dksX51_isPassed_1 14 rfl rfl)
theorem dX51_isPassed_39 : decode cX51_isPassed 39 = .ok (.if_icmp .ne 29, 3) := dk_160 0 29 (dk_at dksX51_isPassed_1 15 rfl rfl)
theorem dX51_isPassed_42 : decode cX51_isPassed 42 = .ok (.aload_n 0, 1) := dk_42 (dk_at dksX51_isPassed_1 18 rfl rfl)
theorem dX51_isPassed_43 : decode cX51_isPassed 43 = .ok (.iload_n 3, 1) := dk_29 (dk_at dksX51_isPassed_1 19 rfl rfl)
theorem dX51_isPassed_44 : decode cX51_isPassed 44 = .ok (.invokevirtual 198, 3) := dk_182 0 198 (dk_at dksX51_isPassed_1 20 rfl rfl)
theorem dX51_isPassed_47 : decode cX51_isPassed 47 = .ok (.aload_n 0, 1) := dk_42 (dk_at dksX51_isPassed_1 23 rfl rfl)
theorem dX51_isPassed_48 : decode cX51_isPassed 48 = .ok (.iload_n 1, 1) := dk_27 (dk_at dksX51_isPassed_2 0 rfl rfl)
theorem dX51_isPassed_49 : decode cX51_isPassed 49 = .ok (.invokevirtual 198, 3) := dk_182 0 198 (dk_at dksX51_isPassed_2 1 rfl rfl)
theorem dX51_isPassed_52 : decode cX51_isPassed 52 = .ok (.if_icmp .ne 16, 3) := dk_160 0 16 (dk_at dksX51_isPassed_2 4 rfl rfl)
theorem dX51_isPassed_55 : decode cX51_isPassed 55 = .ok (.aload_n 0, 1) := dk_42 (dk_at dksX51_isPassed_2 7 rfl rfl)
theorem dX51_isPassed_56 : decode cX51_isPassed 56 = .ok (.iload_n 3, 1) := dk_29 (dk_at dksX51_isPassed_2 8 rfl rfl)
theorem dX51_isPassed_57 : decode cX51_isPassed 57 = .ok (.iconst 1, 1) := dk_4 (dk_at dksX51_isPassed_2 9 rfl rfl)
theorem dX51_isPassed_58 : decode cX51_isPassed 58 = .ok (.invokevirtual 207, 3) := dk_182 0 207 (dk_at dksX51_isPassed_2 10 rfl rfl)
theorem dX51_isPassed_61 : decode cX51_isPassed 61 = .ok (.ifCond .eq 7, 3) := dk_153 0 7 (dk_at dksX51_isPassed_2 13 rfl rfl)
theorem dX51_isPassed_64 : decode cX51_isPassed 64 = .ok (.iconst 1, 1) := dk_4 (dk_at dksX51_isPassed_2 16 rfl rfl)
theorem dX51_isPassed_65 : decode cX51_isPassed 65 = .ok (.goto 4, 3) := dk_167 0 4 (dk_at dksX51_isPassed_2 17 rfl rfl)
theorem dX51_isPassed_68 : decode cX51_isPassed 68 = .ok (.iconst 0, 1) := dk_3 (dk_at dksX51_isPassed_2 20 rfl rfl)
theorem dX51_isPassed_69 : decode cX51_isPassed 69 = .ok (.istore_n 2, 1) := dk_61 (dk_at dksX51_isPassed_2 21 rfl rfl)
theorem dX51_isPassed_70 : decode cX51_isPassed 70 = .ok (.iinc 3 1, 3) := dk_132 3 1 (dk_at dksX51_isPassed_3 0 rfl rfl)
theorem dX51_isPassed_73 : decode cX51_isPassed 73 = .ok (.goto (-58), 3) := dk_167 255 198 (dk_at dksX51_isPassed_3 3 rfl rfl)
theorem dX51_isPassed_76 : decode cX51_isPassed 76 = .ok (.iload_n 2, 1) := dk_28 (dk_at dksX51_isPassed_3 6 rfl rfl)
theorem dX51_isPassed_77 : decode cX51_isPassed 77 = .ok (.ireturn, 1) := dk_172 (dk_at dksX51_isPassed_3 7 rfl rfl)
abbrev cX51_hasTests : ByteArray := prog_60_method_32_code
def yX51_hasTests : MethodName := ⟨RX51, "hasTests", "(IZ)Z"⟩
def dkwX51_hasTests_3 : List UInt8 := [167, 255, 199, 29, 153, 0, 16, 21, 4, 154, 0, 7, 28, 154, 0, 7, 4, 167, 0, 4, 3, 172]
abbrev dktX51_hasTests_3 : List UInt8 := dkwX51_hasTests_3 ++ []
def dkwX51_hasTests_2 : List UInt8 := [182, 0, 172, 46, 2, 159, 0, 7, 4, 167, 0, 4, 3, 54, 4, 42, 21, 5, 182, 0, 204, 54, 5]
abbrev dktX51_hasTests_2 : List UInt8 := dkwX51_hasTests_2 ++ dktX51_hasTests_3
def dkwX51_hasTests_1 : List UInt8 := [182, 0, 168, 153, 0, 34, 4, 62, 21, 4, 153, 0, 24, 42, 180, 0, 48, 42, 21, 5, 4, 96]
abbrev dktX51_hasTests_1 : List UInt8 := dkwX51_hasTests_1 ++ dktX51_hasTests_2
def dkwX51_hasTests_0 : List UInt8 := [3, 62, 4, 54, 4, 42, 27, 182, 0, 201, 54, 5, 21, 5, 2, 159, 0, 57, 42, 21, 5, 20, 0, 124]
abbrev dktX51_hasTests_0 : List UInt8 := dkwX51_hasTests_0 ++ dktX51_hasTests_1
theorem dksX51_hasTests_0 : cX51_hasTests.data.toList.drop 0 = dktX51_hasTests_0 := by decide +kernel
theorem dksX51_hasTests_1 : cX51_hasTests.data.toList.drop 24 = dktX51_hasTests_1 := dk_seg dksX51_hasTests_0 24 rfl rfl
theorem dksX51_hasTests_2 : cX51_hasTests.data.toList.drop 46 = dktX51_hasTests_2 := dk_seg dksX51_hasTests_1 22 rfl rfl
theorem dksX51_hasTests_3 : cX51_hasTests.data.toList.drop 69 = dktX51_hasTests_3 := dk_seg dksX51_hasTests_2 23 rfl rfl
theorem dX51_hasTests_0 : decode cX51_hasTests 0 = .ok (.iconst 0, 1) := dk_3 (dk_at dksX51_hasTests_0 0 rfl rfl)
theorem dX51_hasTests_1 : decode cX51_hasTests 1 = .ok (.istore_n 3, 1) := dk_62 (dk_at dksX51_hasTests_0 1 rfl rfl)
theorem dX51_hasTests_2 : decode cX51_hasTests 2 = .ok (.iconst 1, 1) := dk_4 (dk_at dksX51_hasTests_0 2 rfl rfl)
theorem dX51_hasTests_3 : decode cX51_hasTests 3 = .ok (.istore 4, 2) := dk_54 4 (dk_at dksX51_hasTests_0 3 rfl rfl)
theorem dX51_hasTests_5 : decode cX51_hasTests 5 = .ok (.aload_n 0, 1) := dk_42 (dk_at dksX51_hasTests_0 5 rfl rfl)
theorem dX51_hasTests_6 : decode cX51_hasTests 6 = .ok (.iload_n 1, 1) := dk_27 (dk_at dksX51_hasTests_0 6 rfl rfl)
theorem dX51_hasTests_7 : decode cX51_hasTests 7 = .ok (.invokevirtual 201, 3) := dk_182 0 201 (dk_at dksX51_hasTests_0 7 rfl rfl)
theorem dX51_hasTests_10 : decode cX51_hasTests 10 = .ok (.istore 5, 2) := dk_54 5 (dk_at dksX51_hasTests_0 10 rfl rfl)
theorem dX51_hasTests_12 : decode cX51_hasTests 12 = .ok (.iload 5, 2) := dk_21 5 (dk_at dksX51_hasTests_0 12 rfl rfl)
theorem dX51_hasTests_14 : decode cX51_hasTests 14 = .ok (.iconst (-1), 1) := dk_2 (dk_at dksX51_hasTests_0 14 rfl rfl)
theorem dX51_hasTests_15 : decode cX51_hasTests 15 = .ok (.if_icmp .eq 57, 3) := dk_159 0 57 (dk_at dksX51_hasTests_0 15 rfl rfl)
theorem dX51_hasTests_18 : decode cX51_hasTests 18 = .ok (.aload_n 0, 1) := dk_42 (dk_at dksX51_hasTests_0 18 rfl rfl)
theorem dX51_hasTests_19 : decode cX51_hasTests 19 = .ok (.iload 5, 2) := dk_21 5 (dk_at dksX51_hasTests_0 19 rfl rfl)
theorem dX51_hasTests_21 : decode cX51_hasTests 21 = .ok (.ldc2_w 124, 3) := dk_20 0 124 (dk_at dksX51_hasTests_0 21 rfl rfl)
theorem dX51_hasTests_24 : decode cX51_hasTests 24 = .ok (.invokevirtual 168, 3) := dk_182 0 168 (dk_at dksX51_hasTests_1 0 rfl rfl)
theorem dX51_hasTests_27 : decode cX51_hasTests 27 = .ok (.ifCond .eq 34, 3) := dk_153 0 34 (dk_at dksX51_hasTests_1 3 rfl rfl)
theorem dX51_hasTests_30 : decode cX51_hasTests 30 = .ok (.iconst 1, 1) := dk_4 (dk_at dksX51_hasTests_1 6 rfl rfl)
theorem dX51_hasTests_31 : decode cX51_hasTests 31 = .ok (.istore_n 3, 1) := dk_62 (dk_at dksX51_hasTests_1 7 rfl rfl)
theorem dX51_hasTests_32 : decode cX51_hasTests 32 = .ok (.iload 4, 2) := dk_21 4 (dk_at dksX51_hasTests_1 8 rfl rfl)
theorem dX51_hasTests_34 : decode cX51_hasTests 34 = .ok (.ifCond .eq 24, 3) := dk_153 0 24 (dk_at dksX51_hasTests_1 10 rfl rfl)
theorem dX51_hasTests_37 : decode cX51_hasTests 37 = .ok (.aload_n 0, 1) := dk_42 (dk_at dksX51_hasTests_1 13 rfl rfl)
theorem dX51_hasTests_38 : decode cX51_hasTests 38 = .ok (.getfield 48, 3) := dk_180 0 48 (dk_at dksX51_hasTests_1 14 rfl rfl)
theorem dX51_hasTests_41 : decode cX51_hasTests 41 = .ok (.aload_n 0, 1) := dk_42 (dk_at dksX51_hasTests_1 17 rfl rfl)
theorem dX51_hasTests_42 : decode cX51_hasTests 42 = .ok (.iload 5, 2) := dk_21 5 (dk_at dksX51_hasTests_1 18 rfl rfl)
theorem dX51_hasTests_44 : decode cX51_hasTests 44 = .ok (.iconst 1, 1) := dk_4 (dk_at dksX51_hasTests_1 20 rfl rfl)
theorem dX51_hasTests_45 : decode cX51_hasTests 45 = .ok (.iadd, 1) := dk_96 (dk_at dksX51_hasTests_1 21 rfl rfl)
theorem dX51_hasTests_46 : decode cX51_hasTests 46 = .ok (.invokevirtual 172, 3) := dk_182 0 172 (dk_at dksX51_hasTests_2 0 rfl rfl)
theorem dX51_hasTests_49 : decode cX51_hasTests 49 = .ok (.iaload, 1) := dk_46 (dk_at dksX51_hasTests_2 3 rfl rfl)
theorem dX51_hasTests_50 : decode cX51_hasTests 50 = .ok (.iconst (-1), 1) := dk_2 (dk_at dksX51_hasTests_2 4 rfl rfl)
theorem dX51_hasTests_51 : decode cX51_hasTests 51 = .ok (.if_icmp .eq 7, 3) := dk_159 0 7 (dk_at dksX51_hasTests_2 5 rfl rfl)
theorem dX51_hasTests_54 : decode cX51_hasTests 54 = .ok (.iconst 1, 1) := dk_4 (dk_at dksX51_hasTests_2 8 rfl rfl)
theorem dX51_hasTests_55 : decode cX51_hasTests 55 = .ok (.goto 4, 3) := dk_167 0 4 (dk_at dksX51_hasTests_2 9 rfl rfl)
theorem dX51_hasTests_58 : decode cX51_hasTests 58 = .ok (.iconst 0, 1) := dk_3 (dk_at dksX51_hasTests_2 12 rfl rfl)
theorem dX51_hasTests_59 : decode cX51_hasTests 59 = .ok (.istore 4, 2) := dk_54 4 (dk_at dksX51_hasTests_2 13 rfl rfl)
theorem dX51_hasTests_61 : decode cX51_hasTests 61 = .ok (.aload_n 0, 1) := dk_42 (dk_at dksX51_hasTests_2 15 rfl rfl)
theorem dX51_hasTests_62 : decode cX51_hasTests 62 = .ok (.iload 5, 2) := dk_21 5 (dk_at dksX51_hasTests_2 16 rfl rfl)
theorem dX51_hasTests_64 : decode cX51_hasTests 64 = .ok (.invokevirtual 204, 3) := dk_182 0 204 (dk_at dksX51_hasTests_2 18 rfl rfl)
theorem dX51_hasTests_67 : decode cX51_hasTests 67 = .ok (.istore 5, 2) := dk_54 5 (dk_at dksX51_hasTests_2 21 rfl rfl)
theorem dX51_hasTests_69 : decode cX51_hasTests 69 = .ok (.goto (-57), 3) := dk_167 255 199 (dk_at dksX51_hasTests_3 0 rfl rfl)
theorem dX51_hasTests_72 : decode cX51_hasTests 72 = .ok (.iload_n 3, 1) := dk_29 (dk_at dksX51_hasTests_3 3 rfl rfl)
theorem dX51_hasTests_73 : decode cX51_hasTests 73 = .ok (.ifCond .eq 16, 3) := dk_153 0 16 (dk_at dksX51_hasTests_3 4 rfl rfl)
theorem dX51_hasTests_76 : decode cX51_hasTests 76 = .ok (.iload 4, 2) := dk_21 4 (dk_at dksX51_hasTests_3 7 rfl rfl)
theorem dX51_hasTests_78 : decode cX51_hasTests 78 = .ok (.ifCond .ne 7, 3) := dk_154 0 7 (dk_at dksX51_hasTests_3 9 rfl rfl)
theorem dX51_hasTests_81 : decode cX51_hasTests 81 = .ok (.iload_n 2, 1) := dk_28 (dk_at dksX51_hasTests_3 12 rfl rfl)
theorem dX51_hasTests_82 : decode cX51_hasTests 82 = .ok (.ifCond .ne 7, 3) := dk_154 0 7 (dk_at dksX51_hasTests_3 13 rfl rfl)
theorem dX51_hasTests_85 : decode cX51_hasTests 85 = .ok (.iconst 1, 1) := dk_4 (dk_at dksX51_hasTests_3 16 rfl rfl)
theorem dX51_hasTests_86 : decode cX51_hasTests 86 = .ok (.goto 4, 3) := dk_167 0 4 (dk_at dksX51_hasTests_3 17 rfl rfl)
theorem dX51_hasTests_89 : decode cX51_hasTests 89 = .ok (.iconst 0, 1) := dk_3 (dk_at dksX51_hasTests_3 20 rfl rfl)
theorem dX51_hasTests_90 : decode cX51_hasTests 90 = .ok (.ireturn, 1) := dk_172 (dk_at dksX51_hasTests_3 21 rfl rfl)
abbrev cX51_firstItem : ByteArray := prog_60_method_26_code
def yX51_firstItem : MethodName := ⟨RX51, "firstItem", "(I)I"⟩
def dkwX51_firstItem_0 : List UInt8 := [42, 180, 0, 29, 27, 46, 6, 96, 172]
abbrev dktX51_firstItem_0 : List UInt8 := dkwX51_firstItem_0 ++ []
theorem dksX51_firstItem_0 : cX51_firstItem.data.toList.drop 0 = dktX51_firstItem_0 := by decide +kernel
theorem dX51_firstItem_0 : decode cX51_firstItem 0 = .ok (.aload_n 0, 1) := dk_42 (dk_at dksX51_firstItem_0 0 rfl rfl)
theorem dX51_firstItem_1 : decode cX51_firstItem 1 = .ok (.getfield 29, 3) := dk_180 0 29 (dk_at dksX51_firstItem_0 1 rfl rfl)
theorem dX51_firstItem_4 : decode cX51_firstItem 4 = .ok (.iload_n 1, 1) := dk_27 (dk_at dksX51_firstItem_0 4 rfl rfl)
theorem dX51_firstItem_5 : decode cX51_firstItem 5 = .ok (.iaload, 1) := dk_46 (dk_at dksX51_firstItem_0 5 rfl rfl)
theorem dX51_firstItem_6 : decode cX51_firstItem 6 = .ok (.iconst 3, 1) := dk_6 (dk_at dksX51_firstItem_0 6 rfl rfl)
theorem dX51_firstItem_7 : decode cX51_firstItem 7 = .ok (.iadd, 1) := dk_96 (dk_at dksX51_firstItem_0 7 rfl rfl)
theorem dX51_firstItem_8 : decode cX51_firstItem 8 = .ok (.ireturn, 1) := dk_172 (dk_at dksX51_firstItem_0 8 rfl rfl)
abbrev cX51_has : ByteArray := prog_60_method_18_code
def yX51_has : MethodName := ⟨RX51, "has", "(IJ)Z"⟩
def dkwX51_has_1 : List UInt8 := [32, 148, 154, 0, 7, 4, 167, 0, 4, 3, 172]
abbrev dktX51_has_1 : List UInt8 := dkwX51_has_1 ++ []
def dkwX51_has_0 : List UInt8 := [27, 42, 180, 0, 159, 162, 0, 28, 42, 180, 0, 13, 42, 180, 0, 16, 42, 180, 0, 20, 27, 184, 0, 86]
abbrev dktX51_has_0 : List UInt8 := dkwX51_has_0 ++ dktX51_has_1
theorem dksX51_has_0 : cX51_has.data.toList.drop 0 = dktX51_has_0 := by decide +kernel
theorem dksX51_has_1 : cX51_has.data.toList.drop 24 = dktX51_has_1 := dk_seg dksX51_has_0 24 rfl rfl
theorem dX51_has_0 : decode cX51_has 0 = .ok (.iload_n 1, 1) := dk_27 (dk_at dksX51_has_0 0 rfl rfl)
theorem dX51_has_1 : decode cX51_has 1 = .ok (.aload_n 0, 1) := dk_42 (dk_at dksX51_has_0 1 rfl rfl)
theorem dX51_has_2 : decode cX51_has 2 = .ok (.getfield 159, 3) := dk_180 0 159 (dk_at dksX51_has_0 2 rfl rfl)
theorem dX51_has_5 : decode cX51_has 5 = .ok (.if_icmp .ge 28, 3) := dk_162 0 28 (dk_at dksX51_has_0 5 rfl rfl)
theorem dX51_has_8 : decode cX51_has 8 = .ok (.aload_n 0, 1) := dk_42 (dk_at dksX51_has_0 8 rfl rfl)
theorem dX51_has_9 : decode cX51_has 9 = .ok (.getfield 13, 3) := dk_180 0 13 (dk_at dksX51_has_0 9 rfl rfl)
theorem dX51_has_12 : decode cX51_has 12 = .ok (.aload_n 0, 1) := dk_42 (dk_at dksX51_has_0 12 rfl rfl)
theorem dX51_has_13 : decode cX51_has 13 = .ok (.getfield 16, 3) := dk_180 0 16 (dk_at dksX51_has_0 13 rfl rfl)
theorem dX51_has_16 : decode cX51_has 16 = .ok (.aload_n 0, 1) := dk_42 (dk_at dksX51_has_0 16 rfl rfl)
theorem dX51_has_17 : decode cX51_has 17 = .ok (.getfield 20, 3) := dk_180 0 20 (dk_at dksX51_has_0 17 rfl rfl)
theorem dX51_has_20 : decode cX51_has 20 = .ok (.iload_n 1, 1) := dk_27 (dk_at dksX51_has_0 20 rfl rfl)
theorem dX51_has_21 : decode cX51_has 21 = .ok (.invokestatic 86, 3) := dk_184 0 86 (dk_at dksX51_has_0 21 rfl rfl)
theorem dX51_has_24 : decode cX51_has 24 = .ok (.lload_n 2, 1) := dk_32 (dk_at dksX51_has_1 0 rfl rfl)
theorem dX51_has_25 : decode cX51_has 25 = .ok (.lcmp, 1) := dk_148 (dk_at dksX51_has_1 1 rfl rfl)
theorem dX51_has_26 : decode cX51_has 26 = .ok (.ifCond .ne 7, 3) := dk_154 0 7 (dk_at dksX51_has_1 2 rfl rfl)
theorem dX51_has_29 : decode cX51_has 29 = .ok (.iconst 1, 1) := dk_4 (dk_at dksX51_has_1 5 rfl rfl)
theorem dX51_has_30 : decode cX51_has 30 = .ok (.goto 4, 3) := dk_167 0 4 (dk_at dksX51_has_1 6 rfl rfl)
theorem dX51_has_33 : decode cX51_has 33 = .ok (.iconst 0, 1) := dk_3 (dk_at dksX51_has_1 9 rfl rfl)
theorem dX51_has_34 : decode cX51_has 34 = .ok (.ireturn, 1) := dk_172 (dk_at dksX51_has_1 10 rfl rfl)
abbrev cX51_wordOf : ByteArray := prog_60_method_6_code
def yX51_wordOf : MethodName := ⟨RX51, "wordOf", "([B[I[II)J"⟩
def dkwX51_wordOf_2 : List UInt8 := [132, 6, 1, 167, 255, 215, 22, 4, 173]
abbrev dktX51_wordOf_2 : List UInt8 := dkwX51_wordOf_2 ++ []
def dkwX51_wordOf_1 : List UInt8 := [16, 8, 162, 0, 27, 20, 0, 81, 22, 4, 105, 42, 21, 6, 51, 17, 0, 255, 126, 133, 97, 55, 4]
abbrev dktX51_wordOf_1 : List UInt8 := dkwX51_wordOf_1 ++ dktX51_wordOf_2
def dkwX51_wordOf_0 : List UInt8 := [10, 55, 4, 43, 29, 46, 54, 6, 21, 6, 44, 29, 46, 162, 0, 39, 44, 29, 46, 43, 29, 46, 100]
abbrev dktX51_wordOf_0 : List UInt8 := dkwX51_wordOf_0 ++ dktX51_wordOf_1
theorem dksX51_wordOf_0 : cX51_wordOf.data.toList.drop 0 = dktX51_wordOf_0 := by decide +kernel
theorem dksX51_wordOf_1 : cX51_wordOf.data.toList.drop 23 = dktX51_wordOf_1 := dk_seg dksX51_wordOf_0 23 rfl rfl
theorem dksX51_wordOf_2 : cX51_wordOf.data.toList.drop 46 = dktX51_wordOf_2 := dk_seg dksX51_wordOf_1 23 rfl rfl
theorem dX51_wordOf_0 : decode cX51_wordOf 0 = .ok (.lconst 1, 1) := dk_10 (dk_at dksX51_wordOf_0 0 rfl rfl)
theorem dX51_wordOf_1 : decode cX51_wordOf 1 = .ok (.lstore 4, 2) := dk_55 4 (dk_at dksX51_wordOf_0 1 rfl rfl)
theorem dX51_wordOf_3 : decode cX51_wordOf 3 = .ok (.aload_n 1, 1) := dk_43 (dk_at dksX51_wordOf_0 3 rfl rfl)
theorem dX51_wordOf_4 : decode cX51_wordOf 4 = .ok (.iload_n 3, 1) := dk_29 (dk_at dksX51_wordOf_0 4 rfl rfl)
theorem dX51_wordOf_5 : decode cX51_wordOf 5 = .ok (.iaload, 1) := dk_46 (dk_at dksX51_wordOf_0 5 rfl rfl)
theorem dX51_wordOf_6 : decode cX51_wordOf 6 = .ok (.istore 6, 2) := dk_54 6 (dk_at dksX51_wordOf_0 6 rfl rfl)
theorem dX51_wordOf_8 : decode cX51_wordOf 8 = .ok (.iload 6, 2) := dk_21 6 (dk_at dksX51_wordOf_0 8 rfl rfl)
theorem dX51_wordOf_10 : decode cX51_wordOf 10 = .ok (.aload_n 2, 1) := dk_44 (dk_at dksX51_wordOf_0 10 rfl rfl)
theorem dX51_wordOf_11 : decode cX51_wordOf 11 = .ok (.iload_n 3, 1) := dk_29 (dk_at dksX51_wordOf_0 11 rfl rfl)
theorem dX51_wordOf_12 : decode cX51_wordOf 12 = .ok (.iaload, 1) := dk_46 (dk_at dksX51_wordOf_0 12 rfl rfl)
theorem dX51_wordOf_13 : decode cX51_wordOf 13 = .ok (.if_icmp .ge 39, 3) := dk_162 0 39 (dk_at dksX51_wordOf_0 13 rfl rfl)
theorem dX51_wordOf_16 : decode cX51_wordOf 16 = .ok (.aload_n 2, 1) := dk_44 (dk_at dksX51_wordOf_0 16 rfl rfl)
theorem dX51_wordOf_17 : decode cX51_wordOf 17 = .ok (.iload_n 3, 1) := dk_29 (dk_at dksX51_wordOf_0 17 rfl rfl)
theorem dX51_wordOf_18 : decode cX51_wordOf 18 = .ok (.iaload, 1) := dk_46 (dk_at dksX51_wordOf_0 18 rfl rfl)
theorem dX51_wordOf_19 : decode cX51_wordOf 19 = .ok (.aload_n 1, 1) := dk_43 (dk_at dksX51_wordOf_0 19 rfl rfl)
theorem dX51_wordOf_20 : decode cX51_wordOf 20 = .ok (.iload_n 3, 1) := dk_29 (dk_at dksX51_wordOf_0 20 rfl rfl)
theorem dX51_wordOf_21 : decode cX51_wordOf 21 = .ok (.iaload, 1) := dk_46 (dk_at dksX51_wordOf_0 21 rfl rfl)
theorem dX51_wordOf_22 : decode cX51_wordOf 22 = .ok (.isub, 1) := dk_100 (dk_at dksX51_wordOf_0 22 rfl rfl)
theorem dX51_wordOf_23 : decode cX51_wordOf 23 = .ok (.bipush 8, 2) := dk_16 8 (dk_at dksX51_wordOf_1 0 rfl rfl)
theorem dX51_wordOf_25 : decode cX51_wordOf 25 = .ok (.if_icmp .ge 27, 3) := dk_162 0 27 (dk_at dksX51_wordOf_1 2 rfl rfl)
theorem dX51_wordOf_28 : decode cX51_wordOf 28 = .ok (.ldc2_w 81, 3) := dk_20 0 81 (dk_at dksX51_wordOf_1 5 rfl rfl)
theorem dX51_wordOf_31 : decode cX51_wordOf 31 = .ok (.lload 4, 2) := dk_22 4 (dk_at dksX51_wordOf_1 8 rfl rfl)
theorem dX51_wordOf_33 : decode cX51_wordOf 33 = .ok (.lmul, 1) := dk_105 (dk_at dksX51_wordOf_1 10 rfl rfl)
theorem dX51_wordOf_34 : decode cX51_wordOf 34 = .ok (.aload_n 0, 1) := dk_42 (dk_at dksX51_wordOf_1 11 rfl rfl)
theorem dX51_wordOf_35 : decode cX51_wordOf 35 = .ok (.iload 6, 2) := dk_21 6 (dk_at dksX51_wordOf_1 12 rfl rfl)
theorem dX51_wordOf_37 : decode cX51_wordOf 37 = .ok (.baload, 1) := dk_51 (dk_at dksX51_wordOf_1 14 rfl rfl)
theorem dX51_wordOf_38 : decode cX51_wordOf 38 = .ok (.sipush 255, 3) := dk_17 0 255 (dk_at dksX51_wordOf_1 15 rfl rfl)
theorem dX51_wordOf_41 : decode cX51_wordOf 41 = .ok (.iand, 1) := dk_126 (dk_at dksX51_wordOf_1 18 rfl rfl)
theorem dX51_wordOf_42 : decode cX51_wordOf 42 = .ok (.i2l, 1) := dk_133 (dk_at dksX51_wordOf_1 19 rfl rfl)
theorem dX51_wordOf_43 : decode cX51_wordOf 43 = .ok (.ladd, 1) := dk_97 (dk_at dksX51_wordOf_1 20 rfl rfl)
theorem dX51_wordOf_44 : decode cX51_wordOf 44 = .ok (.lstore 4, 2) := dk_55 4 (dk_at dksX51_wordOf_1 21 rfl rfl)
theorem dX51_wordOf_46 : decode cX51_wordOf 46 = .ok (.iinc 6 1, 3) := dk_132 6 1 (dk_at dksX51_wordOf_2 0 rfl rfl)
theorem dX51_wordOf_49 : decode cX51_wordOf 49 = .ok (.goto (-41), 3) := dk_167 255 215 (dk_at dksX51_wordOf_2 3 rfl rfl)
theorem dX51_wordOf_52 : decode cX51_wordOf 52 = .ok (.lload 4, 2) := dk_22 4 (dk_at dksX51_wordOf_2 6 rfl rfl)
theorem dX51_wordOf_54 : decode cX51_wordOf 54 = .ok (.lreturn, 1) := dk_173 (dk_at dksX51_wordOf_2 8 rfl rfl)
abbrev cX51_number : ByteArray := prog_60_method_19_code
def yX51_number : MethodName := ⟨RX51, "number", "(I)I"⟩
def dkwX51_number_0 : List UInt8 := [42, 180, 0, 13, 42, 180, 0, 16, 42, 180, 0, 20, 27, 184, 0, 94, 172]
abbrev dktX51_number_0 : List UInt8 := dkwX51_number_0 ++ []
theorem dksX51_number_0 : cX51_number.data.toList.drop 0 = dktX51_number_0 := by decide +kernel
theorem dX51_number_0 : decode cX51_number 0 = .ok (.aload_n 0, 1) := dk_42 (dk_at dksX51_number_0 0 rfl rfl)
theorem dX51_number_1 : decode cX51_number 1 = .ok (.getfield 13, 3) := dk_180 0 13 (dk_at dksX51_number_0 1 rfl rfl)
theorem dX51_number_4 : decode cX51_number 4 = .ok (.aload_n 0, 1) := dk_42 (dk_at dksX51_number_0 4 rfl rfl)
theorem dX51_number_5 : decode cX51_number 5 = .ok (.getfield 16, 3) := dk_180 0 16 (dk_at dksX51_number_0 5 rfl rfl)
theorem dX51_number_8 : decode cX51_number 8 = .ok (.aload_n 0, 1) := dk_42 (dk_at dksX51_number_0 8 rfl rfl)
theorem dX51_number_9 : decode cX51_number 9 = .ok (.getfield 20, 3) := dk_180 0 20 (dk_at dksX51_number_0 9 rfl rfl)
theorem dX51_number_12 : decode cX51_number 12 = .ok (.iload_n 1, 1) := dk_27 (dk_at dksX51_number_0 12 rfl rfl)
theorem dX51_number_13 : decode cX51_number 13 = .ok (.invokestatic 94, 3) := dk_184 0 94 (dk_at dksX51_number_0 13 rfl rfl)
theorem dX51_number_16 : decode cX51_number 16 = .ok (.ireturn, 1) := dk_172 (dk_at dksX51_number_0 16 rfl rfl)
abbrev cX51_numberOf : ByteArray := prog_60_method_7_code
def yX51_numberOf : MethodName := ⟨RX51, "numberOf", "([B[I[II)I"⟩
def dkwX51_numberOf_3 : List UInt8 := [21, 7, 96, 54, 5, 132, 6, 1, 167, 255, 202, 21, 5, 172]
abbrev dktX51_numberOf_3 : List UInt8 := dkwX51_numberOf_3 ++ []
def dkwX51_numberOf_2 : List UInt8 := [100, 54, 7, 21, 7, 155, 0, 10, 21, 7, 16, 9, 164, 0, 7, 2, 167, 0, 11, 16, 10, 21, 5, 104]
abbrev dktX51_numberOf_2 : List UInt8 := dkwX51_numberOf_2 ++ dktX51_numberOf_3
def dkwX51_numberOf_1 : List UInt8 := [54, 6, 21, 6, 21, 4, 162, 0, 53, 21, 5, 155, 0, 48, 42, 43, 29, 46, 21, 6, 96, 51, 16, 48]
abbrev dktX51_numberOf_1 : List UInt8 := dkwX51_numberOf_1 ++ dktX51_numberOf_2
def dkwX51_numberOf_0 : List UInt8 := [44, 29, 46, 43, 29, 46, 100, 54, 4, 21, 4, 16, 9, 164, 0, 7, 2, 167, 0, 4, 3, 54, 5, 3]
abbrev dktX51_numberOf_0 : List UInt8 := dkwX51_numberOf_0 ++ dktX51_numberOf_1
theorem dksX51_numberOf_0 : cX51_numberOf.data.toList.drop 0 = dktX51_numberOf_0 := by decide +kernel
theorem dksX51_numberOf_1 : cX51_numberOf.data.toList.drop 24 = dktX51_numberOf_1 := dk_seg dksX51_numberOf_0 24 rfl rfl
theorem dksX51_numberOf_2 : cX51_numberOf.data.toList.drop 48 = dktX51_numberOf_2 := dk_seg dksX51_numberOf_1 24 rfl rfl
theorem dksX51_numberOf_3 : cX51_numberOf.data.toList.drop 72 = dktX51_numberOf_3 := dk_seg dksX51_numberOf_2 24 rfl rfl
theorem dX51_numberOf_0 : decode cX51_numberOf 0 = .ok (.aload_n 2, 1) := dk_44 (dk_at dksX51_numberOf_0 0 rfl rfl)
theorem dX51_numberOf_1 : decode cX51_numberOf 1 = .ok (.iload_n 3, 1) := dk_29 (dk_at dksX51_numberOf_0 1 rfl rfl)
theorem dX51_numberOf_2 : decode cX51_numberOf 2 = .ok (.iaload, 1) := dk_46 (dk_at dksX51_numberOf_0 2 rfl rfl)
theorem dX51_numberOf_3 : decode cX51_numberOf 3 = .ok (.aload_n 1, 1) := dk_43 (dk_at dksX51_numberOf_0 3 rfl rfl)
theorem dX51_numberOf_4 : decode cX51_numberOf 4 = .ok (.iload_n 3, 1) := dk_29 (dk_at dksX51_numberOf_0 4 rfl rfl)
theorem dX51_numberOf_5 : decode cX51_numberOf 5 = .ok (.iaload, 1) := dk_46 (dk_at dksX51_numberOf_0 5 rfl rfl)
theorem dX51_numberOf_6 : decode cX51_numberOf 6 = .ok (.isub, 1) := dk_100 (dk_at dksX51_numberOf_0 6 rfl rfl)
theorem dX51_numberOf_7 : decode cX51_numberOf 7 = .ok (.istore 4, 2) := dk_54 4 (dk_at dksX51_numberOf_0 7 rfl rfl)
theorem dX51_numberOf_9 : decode cX51_numberOf 9 = .ok (.iload 4, 2) := dk_21 4 (dk_at dksX51_numberOf_0 9 rfl rfl)
theorem dX51_numberOf_11 : decode cX51_numberOf 11 = .ok (.bipush 9, 2) := dk_16 9 (dk_at dksX51_numberOf_0 11 rfl rfl)
theorem dX51_numberOf_13 : decode cX51_numberOf 13 = .ok (.if_icmp .le 7, 3) := dk_164 0 7 (dk_at dksX51_numberOf_0 13 rfl rfl)
theorem dX51_numberOf_16 : decode cX51_numberOf 16 = .ok (.iconst (-1), 1) := dk_2 (dk_at dksX51_numberOf_0 16 rfl rfl)
theorem dX51_numberOf_17 : decode cX51_numberOf 17 = .ok (.goto 4, 3) := dk_167 0 4 (dk_at dksX51_numberOf_0 17 rfl rfl)
theorem dX51_numberOf_20 : decode cX51_numberOf 20 = .ok (.iconst 0, 1) := dk_3 (dk_at dksX51_numberOf_0 20 rfl rfl)
theorem dX51_numberOf_21 : decode cX51_numberOf 21 = .ok (.istore 5, 2) := dk_54 5 (dk_at dksX51_numberOf_0 21 rfl rfl)
theorem dX51_numberOf_23 : decode cX51_numberOf 23 = .ok (.iconst 0, 1) := dk_3 (dk_at dksX51_numberOf_0 23 rfl rfl)
theorem dX51_numberOf_24 : decode cX51_numberOf 24 = .ok (.istore 6, 2) := dk_54 6 (dk_at dksX51_numberOf_1 0 rfl rfl)
theorem dX51_numberOf_26 : decode cX51_numberOf 26 = .ok (.iload 6, 2) := dk_21 6 (dk_at dksX51_numberOf_1 2 rfl rfl)
theorem dX51_numberOf_28 : decode cX51_numberOf 28 = .ok (.iload 4, 2) := dk_21 4 (dk_at dksX51_numberOf_1 4 rfl rfl)
theorem dX51_numberOf_30 : decode cX51_numberOf 30 = .ok (.if_icmp .ge 53, 3) := dk_162 0 53 (dk_at dksX51_numberOf_1 6 rfl rfl)
theorem dX51_numberOf_33 : decode cX51_numberOf 33 = .ok (.iload 5, 2) := dk_21 5 (dk_at dksX51_numberOf_1 9 rfl rfl)
theorem dX51_numberOf_35 : decode cX51_numberOf 35 = .ok (.ifCond .lt 48, 3) := dk_155 0 48 (dk_at dksX51_numberOf_1 11 rfl rfl)
theorem dX51_numberOf_38 : decode cX51_numberOf 38 = .ok (.aload_n 0, 1) := dk_42 (dk_at dksX51_numberOf_1 14 rfl rfl)
theorem dX51_numberOf_39 : decode cX51_numberOf 39 = .ok (.aload_n 1, 1) := dk_43 (dk_at dksX51_numberOf_1 15 rfl rfl)
theorem dX51_numberOf_40 : decode cX51_numberOf 40 = .ok (.iload_n 3, 1) := dk_29 (dk_at dksX51_numberOf_1 16 rfl rfl)
theorem dX51_numberOf_41 : decode cX51_numberOf 41 = .ok (.iaload, 1) := dk_46 (dk_at dksX51_numberOf_1 17 rfl rfl)
theorem dX51_numberOf_42 : decode cX51_numberOf 42 = .ok (.iload 6, 2) := dk_21 6 (dk_at dksX51_numberOf_1 18 rfl rfl)
theorem dX51_numberOf_44 : decode cX51_numberOf 44 = .ok (.iadd, 1) := dk_96 (dk_at dksX51_numberOf_1 20 rfl rfl)
theorem dX51_numberOf_45 : decode cX51_numberOf 45 = .ok (.baload, 1) := dk_51 (dk_at dksX51_numberOf_1 21 rfl rfl)
theorem dX51_numberOf_46 : decode cX51_numberOf 46 = .ok (.bipush 48, 2) := dk_16 48 (dk_at dksX51_numberOf_1 22 rfl rfl)
theorem dX51_numberOf_48 : decode cX51_numberOf 48 = .ok (.isub, 1) := dk_100 (dk_at dksX51_numberOf_2 0 rfl rfl)
theorem dX51_numberOf_49 : decode cX51_numberOf 49 = .ok (.istore 7, 2) := dk_54 7 (dk_at dksX51_numberOf_2 1 rfl rfl)
theorem dX51_numberOf_51 : decode cX51_numberOf 51 = .ok (.iload 7, 2) := dk_21 7 (dk_at dksX51_numberOf_2 3 rfl rfl)
theorem dX51_numberOf_53 : decode cX51_numberOf 53 = .ok (.ifCond .lt 10, 3) := dk_155 0 10 (dk_at dksX51_numberOf_2 5 rfl rfl)
theorem dX51_numberOf_56 : decode cX51_numberOf 56 = .ok (.iload 7, 2) := dk_21 7 (dk_at dksX51_numberOf_2 8 rfl rfl)
theorem dX51_numberOf_58 : decode cX51_numberOf 58 = .ok (.bipush 9, 2) := dk_16 9 (dk_at dksX51_numberOf_2 10 rfl rfl)
theorem dX51_numberOf_60 : decode cX51_numberOf 60 = .ok (.if_icmp .le 7, 3) := dk_164 0 7 (dk_at dksX51_numberOf_2 12 rfl rfl)
theorem dX51_numberOf_63 : decode cX51_numberOf 63 = .ok (.iconst (-1), 1) := dk_2 (dk_at dksX51_numberOf_2 15 rfl rfl)
theorem dX51_numberOf_64 : decode cX51_numberOf 64 = .ok (.goto 11, 3) := dk_167 0 11 (dk_at dksX51_numberOf_2 16 rfl rfl)
theorem dX51_numberOf_67 : decode cX51_numberOf 67 = .ok (.bipush 10, 2) := dk_16 10 (dk_at dksX51_numberOf_2 19 rfl rfl)
theorem dX51_numberOf_69 : decode cX51_numberOf 69 = .ok (.iload 5, 2) := dk_21 5 (dk_at dksX51_numberOf_2 21 rfl rfl)
theorem dX51_numberOf_71 : decode cX51_numberOf 71 = .ok (.imul, 1) := dk_104 (dk_at dksX51_numberOf_2 23 rfl rfl)
theorem dX51_numberOf_72 : decode cX51_numberOf 72 = .ok (.iload 7, 2) := dk_21 7 (dk_at dksX51_numberOf_3 0 rfl rfl)
theorem dX51_numberOf_74 : decode cX51_numberOf 74 = .ok (.iadd, 1) := dk_96 (dk_at dksX51_numberOf_3 2 rfl rfl)
theorem dX51_numberOf_75 : decode cX51_numberOf 75 = .ok (.istore 5, 2) := dk_54 5 (dk_at dksX51_numberOf_3 3 rfl rfl)
theorem dX51_numberOf_77 : decode cX51_numberOf 77 = .ok (.iinc 6 1, 3) := dk_132 6 1 (dk_at dksX51_numberOf_3 5 rfl rfl)
theorem dX51_numberOf_80 : decode cX51_numberOf 80 = .ok (.goto (-54), 3) := dk_167 255 202 (dk_at dksX51_numberOf_3 8 rfl rfl)
theorem dX51_numberOf_83 : decode cX51_numberOf 83 = .ok (.iload 5, 2) := dk_21 5 (dk_at dksX51_numberOf_3 11 rfl rfl)
theorem dX51_numberOf_85 : decode cX51_numberOf 85 = .ok (.ireturn, 1) := dk_172 (dk_at dksX51_numberOf_3 13 rfl rfl)
abbrev cX51_nextItem : ByteArray := prog_60_method_25_code
def yX51_nextItem : MethodName := ⟨RX51, "nextItem", "(I)I"⟩
def dkwX51_nextItem_2 : List UInt8 := [172]
abbrev dktX51_nextItem_2 : List UInt8 := dkwX51_nextItem_2 ++ []
def dkwX51_nextItem_1 : List UInt8 := [132, 2, 1, 167, 255, 231, 42, 28, 20, 0, 144, 182, 0, 168, 153, 0, 9, 28, 4, 96, 167, 0, 4, 2]
abbrev dktX51_nextItem_1 : List UInt8 := dkwX51_nextItem_1 ++ dktX51_nextItem_2
def dkwX51_nextItem_0 : List UInt8 := [27, 61, 42, 28, 20, 0, 144, 182, 0, 168, 154, 0, 20, 42, 28, 20, 0, 146, 182, 0, 168, 154, 0, 9]
abbrev dktX51_nextItem_0 : List UInt8 := dkwX51_nextItem_0 ++ dktX51_nextItem_1
theorem dksX51_nextItem_0 : cX51_nextItem.data.toList.drop 0 = dktX51_nextItem_0 := by decide +kernel
theorem dksX51_nextItem_1 : cX51_nextItem.data.toList.drop 24 = dktX51_nextItem_1 := dk_seg dksX51_nextItem_0 24 rfl rfl
theorem dksX51_nextItem_2 : cX51_nextItem.data.toList.drop 48 = dktX51_nextItem_2 := dk_seg dksX51_nextItem_1 24 rfl rfl
theorem dX51_nextItem_0 : decode cX51_nextItem 0 = .ok (.iload_n 1, 1) := dk_27 (dk_at dksX51_nextItem_0 0 rfl rfl)
theorem dX51_nextItem_1 : decode cX51_nextItem 1 = .ok (.istore_n 2, 1) := dk_61 (dk_at dksX51_nextItem_0 1 rfl rfl)
theorem dX51_nextItem_2 : decode cX51_nextItem 2 = .ok (.aload_n 0, 1) := dk_42 (dk_at dksX51_nextItem_0 2 rfl rfl)
theorem dX51_nextItem_3 : decode cX51_nextItem 3 = .ok (.iload_n 2, 1) := dk_28 (dk_at dksX51_nextItem_0 3 rfl rfl)
theorem dX51_nextItem_4 : decode cX51_nextItem 4 = .ok (.ldc2_w 144, 3) := dk_20 0 144 (dk_at dksX51_nextItem_0 4 rfl rfl)
theorem dX51_nextItem_7 : decode cX51_nextItem 7 = .ok (.invokevirtual 168, 3) := dk_182 0 168 (dk_at dksX51_nextItem_0 7 rfl rfl)
theorem dX51_nextItem_10 : decode cX51_nextItem 10 = .ok (.ifCond .ne 20, 3) := dk_154 0 20 (dk_at dksX51_nextItem_0 10 rfl rfl)
theorem dX51_nextItem_13 : decode cX51_nextItem 13 = .ok (.aload_n 0, 1) := dk_42 (dk_at dksX51_nextItem_0 13 rfl rfl)
theorem dX51_nextItem_14 : decode cX51_nextItem 14 = .ok (.iload_n 2, 1) := dk_28 (dk_at dksX51_nextItem_0 14 rfl rfl)
theorem dX51_nextItem_15 : decode cX51_nextItem 15 = .ok (.ldc2_w 146, 3) := dk_20 0 146 (dk_at dksX51_nextItem_0 15 rfl rfl)
theorem dX51_nextItem_18 : decode cX51_nextItem 18 = .ok (.invokevirtual 168, 3) := dk_182 0 168 (dk_at dksX51_nextItem_0 18 rfl rfl)
theorem dX51_nextItem_21 : decode cX51_nextItem 21 = .ok (.ifCond .ne 9, 3) := dk_154 0 9 (dk_at dksX51_nextItem_0 21 rfl rfl)
theorem dX51_nextItem_24 : decode cX51_nextItem 24 = .ok (.iinc 2 1, 3) := dk_132 2 1 (dk_at dksX51_nextItem_1 0 rfl rfl)
theorem dX51_nextItem_27 : decode cX51_nextItem 27 = .ok (.goto (-25), 3) := dk_167 255 231 (dk_at dksX51_nextItem_1 3 rfl rfl)
theorem dX51_nextItem_30 : decode cX51_nextItem 30 = .ok (.aload_n 0, 1) := dk_42 (dk_at dksX51_nextItem_1 6 rfl rfl)
theorem dX51_nextItem_31 : decode cX51_nextItem 31 = .ok (.iload_n 2, 1) := dk_28 (dk_at dksX51_nextItem_1 7 rfl rfl)
theorem dX51_nextItem_32 : decode cX51_nextItem 32 = .ok (.ldc2_w 144, 3) := dk_20 0 144 (dk_at dksX51_nextItem_1 8 rfl rfl)
theorem dX51_nextItem_35 : decode cX51_nextItem 35 = .ok (.invokevirtual 168, 3) := dk_182 0 168 (dk_at dksX51_nextItem_1 11 rfl rfl)
theorem dX51_nextItem_38 : decode cX51_nextItem 38 = .ok (.ifCond .eq 9, 3) := dk_153 0 9 (dk_at dksX51_nextItem_1 14 rfl rfl)
theorem dX51_nextItem_41 : decode cX51_nextItem 41 = .ok (.iload_n 2, 1) := dk_28 (dk_at dksX51_nextItem_1 17 rfl rfl)
theorem dX51_nextItem_42 : decode cX51_nextItem 42 = .ok (.iconst 1, 1) := dk_4 (dk_at dksX51_nextItem_1 18 rfl rfl)
theorem dX51_nextItem_43 : decode cX51_nextItem 43 = .ok (.iadd, 1) := dk_96 (dk_at dksX51_nextItem_1 19 rfl rfl)
theorem dX51_nextItem_44 : decode cX51_nextItem 44 = .ok (.goto 4, 3) := dk_167 0 4 (dk_at dksX51_nextItem_1 20 rfl rfl)
theorem dX51_nextItem_47 : decode cX51_nextItem 47 = .ok (.iconst (-1), 1) := dk_2 (dk_at dksX51_nextItem_1 23 rfl rfl)
theorem dX51_nextItem_48 : decode cX51_nextItem 48 = .ok (.ireturn, 1) := dk_172 (dk_at dksX51_nextItem_2 0 rfl rfl)
abbrev cX51_classOf : ByteArray := prog_60_method_31_code
def yX51_classOf : MethodName := ⟨RX51, "classOf", "(I)I"⟩
def dkwX51_classOf_0 : List UInt8 := [42, 42, 180, 0, 29, 27, 46, 4, 96, 182, 0, 172, 172]
abbrev dktX51_classOf_0 : List UInt8 := dkwX51_classOf_0 ++ []
theorem dksX51_classOf_0 : cX51_classOf.data.toList.drop 0 = dktX51_classOf_0 := by decide +kernel
theorem dX51_classOf_0 : decode cX51_classOf 0 = .ok (.aload_n 0, 1) := dk_42 (dk_at dksX51_classOf_0 0 rfl rfl)
theorem dX51_classOf_1 : decode cX51_classOf 1 = .ok (.aload_n 0, 1) := dk_42 (dk_at dksX51_classOf_0 1 rfl rfl)
theorem dX51_classOf_2 : decode cX51_classOf 2 = .ok (.getfield 29, 3) := dk_180 0 29 (dk_at dksX51_classOf_0 2 rfl rfl)
theorem dX51_classOf_5 : decode cX51_classOf 5 = .ok (.iload_n 1, 1) := dk_27 (dk_at dksX51_classOf_0 5 rfl rfl)
theorem dX51_classOf_6 : decode cX51_classOf 6 = .ok (.iaload, 1) := dk_46 (dk_at dksX51_classOf_0 6 rfl rfl)
theorem dX51_classOf_7 : decode cX51_classOf 7 = .ok (.iconst 1, 1) := dk_4 (dk_at dksX51_classOf_0 7 rfl rfl)
theorem dX51_classOf_8 : decode cX51_classOf 8 = .ok (.iadd, 1) := dk_96 (dk_at dksX51_classOf_0 8 rfl rfl)
theorem dX51_classOf_9 : decode cX51_classOf 9 = .ok (.invokevirtual 172, 3) := dk_182 0 172 (dk_at dksX51_classOf_0 9 rfl rfl)
theorem dX51_classOf_12 : decode cX51_classOf 12 = .ok (.ireturn, 1) := dk_172 (dk_at dksX51_classOf_0 12 rfl rfl)
abbrev cX51_stateOfTest : ByteArray := prog_60_method_29_code
def yX51_stateOfTest : MethodName := ⟨RX51, "stateOfTest", "(I)I"⟩
def dkwX51_stateOfTest_2 : List UInt8 := [167, 0, 4, 3, 42, 27, 5, 96, 20, 0, 126, 182, 0, 168, 160, 0, 7, 4, 167, 0, 4, 3, 172]
abbrev dktX51_stateOfTest_2 : List UInt8 := dkwX51_stateOfTest_2 ++ []
def dkwX51_stateOfTest_1 : List UInt8 := [181, 0, 188, 5, 172, 42, 180, 0, 48, 28, 46, 42, 27, 6, 96, 182, 0, 172, 160, 0, 7, 4]
abbrev dktX51_stateOfTest_1 : List UInt8 := dkwX51_stateOfTest_1 ++ dktX51_stateOfTest_2
def dkwX51_stateOfTest_0 : List UInt8 := [42, 27, 4, 96, 182, 0, 172, 61, 42, 180, 0, 48, 28, 46, 2, 160, 0, 13, 42, 16, 100, 28, 96]
abbrev dktX51_stateOfTest_0 : List UInt8 := dkwX51_stateOfTest_0 ++ dktX51_stateOfTest_1
theorem dksX51_stateOfTest_0 : cX51_stateOfTest.data.toList.drop 0 = dktX51_stateOfTest_0 := by decide +kernel
theorem dksX51_stateOfTest_1 : cX51_stateOfTest.data.toList.drop 23 = dktX51_stateOfTest_1 := dk_seg dksX51_stateOfTest_0 23 rfl rfl
theorem dksX51_stateOfTest_2 : cX51_stateOfTest.data.toList.drop 45 = dktX51_stateOfTest_2 := dk_seg dksX51_stateOfTest_1 22 rfl rfl
theorem dX51_stateOfTest_0 : decode cX51_stateOfTest 0 = .ok (.aload_n 0, 1) := dk_42 (dk_at dksX51_stateOfTest_0 0 rfl rfl)
theorem dX51_stateOfTest_1 : decode cX51_stateOfTest 1 = .ok (.iload_n 1, 1) := dk_27 (dk_at dksX51_stateOfTest_0 1 rfl rfl)
theorem dX51_stateOfTest_2 : decode cX51_stateOfTest 2 = .ok (.iconst 1, 1) := dk_4 (dk_at dksX51_stateOfTest_0 2 rfl rfl)
theorem dX51_stateOfTest_3 : decode cX51_stateOfTest 3 = .ok (.iadd, 1) := dk_96 (dk_at dksX51_stateOfTest_0 3 rfl rfl)
theorem dX51_stateOfTest_4 : decode cX51_stateOfTest 4 = .ok (.invokevirtual 172, 3) := dk_182 0 172 (dk_at dksX51_stateOfTest_0 4 rfl rfl)
theorem dX51_stateOfTest_7 : decode cX51_stateOfTest 7 = .ok (.istore_n 2, 1) := dk_61 (dk_at dksX51_stateOfTest_0 7 rfl rfl)
theorem dX51_stateOfTest_8 : decode cX51_stateOfTest 8 = .ok (.aload_n 0, 1) := dk_42 (dk_at dksX51_stateOfTest_0 8 rfl rfl)
theorem dX51_stateOfTest_9 : decode cX51_stateOfTest 9 = .ok (.getfield 48, 3) := dk_180 0 48 (dk_at dksX51_stateOfTest_0 9 rfl rfl)
theorem dX51_stateOfTest_12 : decode cX51_stateOfTest 12 = .ok (.iload_n 2, 1) := dk_28 (dk_at dksX51_stateOfTest_0 12 rfl rfl)
theorem dX51_stateOfTest_13 : decode cX51_stateOfTest 13 = .ok (.iaload, 1) := dk_46 (dk_at dksX51_stateOfTest_0 13 rfl rfl)
theorem dX51_stateOfTest_14 : decode cX51_stateOfTest 14 = .ok (.iconst (-1), 1) := dk_2 (dk_at dksX51_stateOfTest_0 14 rfl rfl)
theorem dX51_stateOfTest_15 : decode cX51_stateOfTest 15 = .ok (.if_icmp .ne 13, 3) := dk_160 0 13 (dk_at dksX51_stateOfTest_0 15 rfl rfl)
theorem dX51_stateOfTest_18 : decode cX51_stateOfTest 18 = .ok (.aload_n 0, 1) := dk_42 (dk_at dksX51_stateOfTest_0 18 rfl rfl)
theorem dX51_stateOfTest_19 : decode cX51_stateOfTest 19 = .ok (.bipush 100, 2) := dk_16 100 (dk_at dksX51_stateOfTest_0 19 rfl rfl)
theorem dX51_stateOfTest_21 : decode cX51_stateOfTest 21 = .ok (.iload_n 2, 1) := dk_28 (dk_at dksX51_stateOfTest_0 21 rfl rfl)
theorem dX51_stateOfTest_22 : decode cX51_stateOfTest 22 = .ok (.iadd, 1) := dk_96 (dk_at dksX51_stateOfTest_0 22 rfl rfl)
theorem dX51_stateOfTest_23 : decode cX51_stateOfTest 23 = .ok (.putfield 188, 3) := dk_181 0 188 (dk_at dksX51_stateOfTest_1 0 rfl rfl)
theorem dX51_stateOfTest_26 : decode cX51_stateOfTest 26 = .ok (.iconst 2, 1) := dk_5 (dk_at dksX51_stateOfTest_1 3 rfl rfl)
theorem dX51_stateOfTest_27 : decode cX51_stateOfTest 27 = .ok (.ireturn, 1) := dk_172 (dk_at dksX51_stateOfTest_1 4 rfl rfl)
theorem dX51_stateOfTest_28 : decode cX51_stateOfTest 28 = .ok (.aload_n 0, 1) := dk_42 (dk_at dksX51_stateOfTest_1 5 rfl rfl)
theorem dX51_stateOfTest_29 : decode cX51_stateOfTest 29 = .ok (.getfield 48, 3) := dk_180 0 48 (dk_at dksX51_stateOfTest_1 6 rfl rfl)
theorem dX51_stateOfTest_32 : decode cX51_stateOfTest 32 = .ok (.iload_n 2, 1) := dk_28 (dk_at dksX51_stateOfTest_1 9 rfl rfl)
theorem dX51_stateOfTest_33 : decode cX51_stateOfTest 33 = .ok (.iaload, 1) := dk_46 (dk_at dksX51_stateOfTest_1 10 rfl rfl)
theorem dX51_stateOfTest_34 : decode cX51_stateOfTest 34 = .ok (.aload_n 0, 1) := dk_42 (dk_at dksX51_stateOfTest_1 11 rfl rfl)
theorem dX51_stateOfTest_35 : decode cX51_stateOfTest 35 = .ok (.iload_n 1, 1) := dk_27 (dk_at dksX51_stateOfTest_1 12 rfl rfl)
theorem dX51_stateOfTest_36 : decode cX51_stateOfTest 36 = .ok (.iconst 3, 1) := dk_6 (dk_at dksX51_stateOfTest_1 13 rfl rfl)
theorem dX51_stateOfTest_37 : decode cX51_stateOfTest 37 = .ok (.iadd, 1) := dk_96 (dk_at dksX51_stateOfTest_1 14 rfl rfl)
theorem dX51_stateOfTest_38 : decode cX51_stateOfTest 38 = .ok (.invokevirtual 172, 3) := dk_182 0 172 (dk_at dksX51_stateOfTest_1 15 rfl rfl)
theorem dX51_stateOfTest_41 : decode cX51_stateOfTest 41 = .ok (.if_icmp .ne 7, 3) := dk_160 0 7 (dk_at dksX51_stateOfTest_1 18 rfl rfl)
theorem dX51_stateOfTest_44 : decode cX51_stateOfTest 44 = .ok (.iconst 1, 1) := dk_4 (dk_at dksX51_stateOfTest_1 21 rfl rfl)
theorem dX51_stateOfTest_45 : decode cX51_stateOfTest 45 = .ok (.goto 4, 3) := dk_167 0 4 (dk_at dksX51_stateOfTest_2 0 rfl rfl)
theorem dX51_stateOfTest_48 : decode cX51_stateOfTest 48 = .ok (.iconst 0, 1) := dk_3 (dk_at dksX51_stateOfTest_2 3 rfl rfl)
theorem dX51_stateOfTest_49 : decode cX51_stateOfTest 49 = .ok (.aload_n 0, 1) := dk_42 (dk_at dksX51_stateOfTest_2 4 rfl rfl)
theorem dX51_stateOfTest_50 : decode cX51_stateOfTest 50 = .ok (.iload_n 1, 1) := dk_27 (dk_at dksX51_stateOfTest_2 5 rfl rfl)
theorem dX51_stateOfTest_51 : decode cX51_stateOfTest 51 = .ok (.iconst 2, 1) := dk_5 (dk_at dksX51_stateOfTest_2 6 rfl rfl)
theorem dX51_stateOfTest_52 : decode cX51_stateOfTest 52 = .ok (.iadd, 1) := dk_96 (dk_at dksX51_stateOfTest_2 7 rfl rfl)
theorem dX51_stateOfTest_53 : decode cX51_stateOfTest 53 = .ok (.ldc2_w 126, 3) := dk_20 0 126 (dk_at dksX51_stateOfTest_2 8 rfl rfl)
theorem dX51_stateOfTest_56 : decode cX51_stateOfTest 56 = .ok (.invokevirtual 168, 3) := dk_182 0 168 (dk_at dksX51_stateOfTest_2 11 rfl rfl)
theorem dX51_stateOfTest_59 : decode cX51_stateOfTest 59 = .ok (.if_icmp .ne 7, 3) := dk_160 0 7 (dk_at dksX51_stateOfTest_2 14 rfl rfl)
theorem dX51_stateOfTest_62 : decode cX51_stateOfTest 62 = .ok (.iconst 1, 1) := dk_4 (dk_at dksX51_stateOfTest_2 17 rfl rfl)
theorem dX51_stateOfTest_63 : decode cX51_stateOfTest 63 = .ok (.goto 4, 3) := dk_167 0 4 (dk_at dksX51_stateOfTest_2 18 rfl rfl)
theorem dX51_stateOfTest_66 : decode cX51_stateOfTest 66 = .ok (.iconst 0, 1) := dk_3 (dk_at dksX51_stateOfTest_2 21 rfl rfl)
theorem dX51_stateOfTest_67 : decode cX51_stateOfTest 67 = .ok (.ireturn, 1) := dk_172 (dk_at dksX51_stateOfTest_2 22 rfl rfl)
abbrev cX51_stateOfHolds : ByteArray := prog_60_method_30_code
def yX51_stateOfHolds : MethodName := ⟨RX51, "stateOfHolds", "(II)I"⟩
def dkwX51_stateOfHolds_4 : List UInt8 := [17, 1, 44, 29, 96, 181, 0, 188, 21, 4, 172]
abbrev dktX51_stateOfHolds_4 : List UInt8 := dkwX51_stateOfHolds_4 ++ []
def dkwX51_stateOfHolds_3 : List UInt8 := [160, 0, 12, 21, 4, 154, 0, 7, 5, 167, 0, 5, 21, 4, 54, 4, 132, 5, 1, 167, 255, 182, 42]
abbrev dktX51_stateOfHolds_3 : List UInt8 := dkwX51_stateOfHolds_3 ++ dktX51_stateOfHolds_4
def dkwX51_stateOfHolds_2 : List UInt8 := [180, 0, 59, 21, 5, 46, 4, 160, 0, 7, 4, 167, 0, 25, 42, 180, 0, 59, 21, 5, 46, 5]
abbrev dktX51_stateOfHolds_2 : List UInt8 := dkwX51_stateOfHolds_2 ++ dktX51_stateOfHolds_3
def dkwX51_stateOfHolds_1 : List UInt8 := [21, 5, 46, 42, 180, 0, 32, 28, 46, 160, 0, 52, 42, 21, 5, 182, 0, 198, 29, 160, 0, 42, 42]
abbrev dktX51_stateOfHolds_1 : List UInt8 := dkwX51_stateOfHolds_1 ++ dktX51_stateOfHolds_2
def dkwX51_stateOfHolds_0 : List UInt8 := [42, 27, 4, 96, 182, 0, 172, 62, 3, 54, 4, 3, 54, 5, 21, 5, 28, 162, 0, 74, 42, 180, 0, 32]
abbrev dktX51_stateOfHolds_0 : List UInt8 := dkwX51_stateOfHolds_0 ++ dktX51_stateOfHolds_1
theorem dksX51_stateOfHolds_0 : cX51_stateOfHolds.data.toList.drop 0 = dktX51_stateOfHolds_0 := by decide +kernel
theorem dksX51_stateOfHolds_1 : cX51_stateOfHolds.data.toList.drop 24 = dktX51_stateOfHolds_1 := dk_seg dksX51_stateOfHolds_0 24 rfl rfl
theorem dksX51_stateOfHolds_2 : cX51_stateOfHolds.data.toList.drop 47 = dktX51_stateOfHolds_2 := dk_seg dksX51_stateOfHolds_1 23 rfl rfl
theorem dksX51_stateOfHolds_3 : cX51_stateOfHolds.data.toList.drop 69 = dktX51_stateOfHolds_3 := dk_seg dksX51_stateOfHolds_2 22 rfl rfl
theorem dksX51_stateOfHolds_4 : cX51_stateOfHolds.data.toList.drop 92 = dktX51_stateOfHolds_4 := dk_seg dksX51_stateOfHolds_3 23 rfl rfl
theorem dX51_stateOfHolds_0 : decode cX51_stateOfHolds 0 = .ok (.aload_n 0, 1) := dk_42 (dk_at dksX51_stateOfHolds_0 0 rfl rfl)
theorem dX51_stateOfHolds_1 : decode cX51_stateOfHolds 1 = .ok (.iload_n 1, 1) := dk_27 (dk_at dksX51_stateOfHolds_0 1 rfl rfl)
theorem dX51_stateOfHolds_2 : decode cX51_stateOfHolds 2 = .ok (.iconst 1, 1) := dk_4 (dk_at dksX51_stateOfHolds_0 2 rfl rfl)
theorem dX51_stateOfHolds_3 : decode cX51_stateOfHolds 3 = .ok (.iadd, 1) := dk_96 (dk_at dksX51_stateOfHolds_0 3 rfl rfl)
theorem dX51_stateOfHolds_4 : decode cX51_stateOfHolds 4 = .ok (.invokevirtual 172, 3) := dk_182 0 172 (dk_at dksX51_stateOfHolds_0 4 rfl rfl)
theorem dX51_stateOfHolds_7 : decode cX51_stateOfHolds 7 = .ok (.istore_n 3, 1) := dk_62 (dk_at dksX51_stateOfHolds_0 7 rfl rfl)
theorem dX51_stateOfHolds_8 : decode cX51_stateOfHolds 8 = .ok (.iconst 0, 1) := dk_3 (dk_at dksX51_stateOfHolds_0 8 rfl rfl)
theorem dX51_stateOfHolds_9 : decode cX51_stateOfHolds 9 = .ok (.istore 4, 2) := dk_54 4 (dk_at dksX51_stateOfHolds_0 9 rfl rfl)
theorem dX51_stateOfHolds_11 : decode cX51_stateOfHolds 11 = .ok (.iconst 0, 1) := dk_3 (dk_at dksX51_stateOfHolds_0 11 rfl rfl)
theorem dX51_stateOfHolds_12 : decode cX51_stateOfHolds 12 = .ok (.istore 5, 2) := dk_54 5 (dk_at dksX51_stateOfHolds_0 12 rfl rfl)
theorem dX51_stateOfHolds_14 : decode cX51_stateOfHolds 14 = .ok (.iload 5, 2) := dk_21 5 (dk_at dksX51_stateOfHolds_0 14 rfl rfl)
theorem dX51_stateOfHolds_16 : decode cX51_stateOfHolds 16 = .ok (.iload_n 2, 1) := dk_28 (dk_at dksX51_stateOfHolds_0 16 rfl rfl)
theorem dX51_stateOfHolds_17 : decode cX51_stateOfHolds 17 = .ok (.if_icmp .ge 74, 3) := dk_162 0 74 (dk_at dksX51_stateOfHolds_0 17 rfl rfl)
theorem dX51_stateOfHolds_20 : decode cX51_stateOfHolds 20 = .ok (.aload_n 0, 1) := dk_42 (dk_at dksX51_stateOfHolds_0 20 rfl rfl)
theorem dX51_stateOfHolds_21 : decode cX51_stateOfHolds 21 = .ok (.getfield 32, 3) := dk_180 0 32 (dk_at dksX51_stateOfHolds_0 21 rfl rfl)
theorem dX51_stateOfHolds_24 : decode cX51_stateOfHolds 24 = .ok (.iload 5, 2) := dk_21 5 (dk_at dksX51_stateOfHolds_1 0 rfl rfl)
theorem dX51_stateOfHolds_26 : decode cX51_stateOfHolds 26 = .ok (.iaload, 1) := dk_46 (dk_at dksX51_stateOfHolds_1 2 rfl rfl)
theorem dX51_stateOfHolds_27 : decode cX51_stateOfHolds 27 = .ok (.aload_n 0, 1) := dk_42 (dk_at dksX51_stateOfHolds_1 3 rfl rfl)
theorem dX51_stateOfHolds_28 : decode cX51_stateOfHolds 28 = .ok (.getfield 32, 3) := dk_180 0 32 (dk_at dksX51_stateOfHolds_1 4 rfl rfl)
theorem dX51_stateOfHolds_31 : decode cX51_stateOfHolds 31 = .ok (.iload_n 2, 1) := dk_28 (dk_at dksX51_stateOfHolds_1 7 rfl rfl)
theorem dX51_stateOfHolds_32 : decode cX51_stateOfHolds 32 = .ok (.iaload, 1) := dk_46 (dk_at dksX51_stateOfHolds_1 8 rfl rfl)
theorem dX51_stateOfHolds_33 : decode cX51_stateOfHolds 33 = .ok (.if_icmp .ne 52, 3) := dk_160 0 52 (dk_at dksX51_stateOfHolds_1 9 rfl rfl)
theorem dX51_stateOfHolds_36 : decode cX51_stateOfHolds 36 = .ok (.aload_n 0, 1) := dk_42 (dk_at dksX51_stateOfHolds_1 12 rfl rfl)
theorem dX51_stateOfHolds_37 : decode cX51_stateOfHolds 37 = .ok (.iload 5, 2) := dk_21 5 (dk_at dksX51_stateOfHolds_1 13 rfl rfl)
theorem dX51_stateOfHolds_39 : decode cX51_stateOfHolds 39 = .ok (.invokevirtual 198, 3) := dk_182 0 198 (dk_at dksX51_stateOfHolds_1 15 rfl rfl)
theorem dX51_stateOfHolds_42 : decode cX51_stateOfHolds 42 = .ok (.iload_n 3, 1) := dk_29 (dk_at dksX51_stateOfHolds_1 18 rfl rfl)
theorem dX51_stateOfHolds_43 : decode cX51_stateOfHolds 43 = .ok (.if_icmp .ne 42, 3) := dk_160 0 42 (dk_at dksX51_stateOfHolds_1 19 rfl rfl)
theorem dX51_stateOfHolds_46 : decode cX51_stateOfHolds 46 = .ok (.aload_n 0, 1) := dk_42 (dk_at dksX51_stateOfHolds_1 22 rfl rfl)
theorem dX51_stateOfHolds_47 : decode cX51_stateOfHolds 47 = .ok (.getfield 59, 3) := dk_180 0 59 (dk_at dksX51_stateOfHolds_2 0 rfl rfl)
theorem dX51_stateOfHolds_50 : decode cX51_stateOfHolds 50 = .ok (.iload 5, 2) := dk_21 5 (dk_at dksX51_stateOfHolds_2 3 rfl rfl)
theorem dX51_stateOfHolds_52 : decode cX51_stateOfHolds 52 = .ok (.iaload, 1) := dk_46 (dk_at dksX51_stateOfHolds_2 5 rfl rfl)
theorem dX51_stateOfHolds_53 : decode cX51_stateOfHolds 53 = .ok (.iconst 1, 1) := dk_4 (dk_at dksX51_stateOfHolds_2 6 rfl rfl)
theorem dX51_stateOfHolds_54 : decode cX51_stateOfHolds 54 = .ok (.if_icmp .ne 7, 3) := dk_160 0 7 (dk_at dksX51_stateOfHolds_2 7 rfl rfl)
theorem dX51_stateOfHolds_57 : decode cX51_stateOfHolds 57 = .ok (.iconst 1, 1) := dk_4 (dk_at dksX51_stateOfHolds_2 10 rfl rfl)
theorem dX51_stateOfHolds_58 : decode cX51_stateOfHolds 58 = .ok (.goto 25, 3) := dk_167 0 25 (dk_at dksX51_stateOfHolds_2 11 rfl rfl)
theorem dX51_stateOfHolds_61 : decode cX51_stateOfHolds 61 = .ok (.aload_n 0, 1) := dk_42 (dk_at dksX51_stateOfHolds_2 14 rfl rfl)
theorem dX51_stateOfHolds_62 : decode cX51_stateOfHolds 62 = .ok (.getfield 59, 3) := dk_180 0 59 (dk_at dksX51_stateOfHolds_2 15 rfl rfl)
theorem dX51_stateOfHolds_65 : decode cX51_stateOfHolds 65 = .ok (.iload 5, 2) := dk_21 5 (dk_at dksX51_stateOfHolds_2 18 rfl rfl)
theorem dX51_stateOfHolds_67 : decode cX51_stateOfHolds 67 = .ok (.iaload, 1) := dk_46 (dk_at dksX51_stateOfHolds_2 20 rfl rfl)
theorem dX51_stateOfHolds_68 : decode cX51_stateOfHolds 68 = .ok (.iconst 2, 1) := dk_5 (dk_at dksX51_stateOfHolds_2 21 rfl rfl)
theorem dX51_stateOfHolds_69 : decode cX51_stateOfHolds 69 = .ok (.if_icmp .ne 12, 3) := dk_160 0 12 (dk_at dksX51_stateOfHolds_3 0 rfl rfl)
theorem dX51_stateOfHolds_72 : decode cX51_stateOfHolds 72 = .ok (.iload 4, 2) := dk_21 4 (dk_at dksX51_stateOfHolds_3 3 rfl rfl)
theorem dX51_stateOfHolds_74 : decode cX51_stateOfHolds 74 = .ok (.ifCond .ne 7, 3) := dk_154 0 7 (dk_at dksX51_stateOfHolds_3 5 rfl rfl)
theorem dX51_stateOfHolds_77 : decode cX51_stateOfHolds 77 = .ok (.iconst 2, 1) := dk_5 (dk_at dksX51_stateOfHolds_3 8 rfl rfl)
theorem dX51_stateOfHolds_78 : decode cX51_stateOfHolds 78 = .ok (.goto 5, 3) := dk_167 0 5 (dk_at dksX51_stateOfHolds_3 9 rfl rfl)
theorem dX51_stateOfHolds_81 : decode cX51_stateOfHolds 81 = .ok (.iload 4, 2) := dk_21 4 (dk_at dksX51_stateOfHolds_3 12 rfl rfl)
theorem dX51_stateOfHolds_83 : decode cX51_stateOfHolds 83 = .ok (.istore 4, 2) := dk_54 4 (dk_at dksX51_stateOfHolds_3 14 rfl rfl)
theorem dX51_stateOfHolds_85 : decode cX51_stateOfHolds 85 = .ok (.iinc 5 1, 3) := dk_132 5 1 (dk_at dksX51_stateOfHolds_3 16 rfl rfl)
theorem dX51_stateOfHolds_88 : decode cX51_stateOfHolds 88 = .ok (.goto (-74), 3) := dk_167 255 182 (dk_at dksX51_stateOfHolds_3 19 rfl rfl)
theorem dX51_stateOfHolds_91 : decode cX51_stateOfHolds 91 = .ok (.aload_n 0, 1) := dk_42 (dk_at dksX51_stateOfHolds_3 22 rfl rfl)
theorem dX51_stateOfHolds_92 : decode cX51_stateOfHolds 92 = .ok (.sipush 300, 3) := dk_17 1 44 (dk_at dksX51_stateOfHolds_4 0 rfl rfl)
theorem dX51_stateOfHolds_95 : decode cX51_stateOfHolds 95 = .ok (.iload_n 3, 1) := dk_29 (dk_at dksX51_stateOfHolds_4 3 rfl rfl)
theorem dX51_stateOfHolds_96 : decode cX51_stateOfHolds 96 = .ok (.iadd, 1) := dk_96 (dk_at dksX51_stateOfHolds_4 4 rfl rfl)
theorem dX51_stateOfHolds_97 : decode cX51_stateOfHolds 97 = .ok (.putfield 188, 3) := dk_181 0 188 (dk_at dksX51_stateOfHolds_4 5 rfl rfl)
theorem dX51_stateOfHolds_100 : decode cX51_stateOfHolds 100 = .ok (.iload 4, 2) := dk_21 4 (dk_at dksX51_stateOfHolds_4 8 rfl rfl)
theorem dX51_stateOfHolds_102 : decode cX51_stateOfHolds 102 = .ok (.ireturn, 1) := dk_172 (dk_at dksX51_stateOfHolds_4 10 rfl rfl)
abbrev cX51_stateOfSum : ByteArray := prog_60_method_28_code
def yX51_stateOfSum : MethodName := ⟨RX51, "stateOfSum", "(I)I"⟩
def dkwX51_stateOfSum_4 : List UInt8 := [167, 0, 4, 3, 172]
abbrev dktX51_stateOfSum_4 : List UInt8 := dkwX51_stateOfSum_4 ++ []
def dkwX51_stateOfSum_3 : List UInt8 := [148, 158, 0, 7, 4, 167, 0, 22, 3, 167, 0, 18, 42, 180, 0, 184, 29, 133, 148, 156, 0, 7, 4]
abbrev dktX51_stateOfSum_3 : List UInt8 := dkwX51_stateOfSum_3 ++ dktX51_stateOfSum_4
def dkwX51_stateOfSum_2 : List UInt8 := [182, 0, 194, 42, 42, 180, 0, 191, 4, 96, 182, 0, 172, 62, 28, 153, 0, 21, 42, 180, 0, 184, 29, 133]
abbrev dktX51_stateOfSum_2 : List UInt8 := dkwX51_stateOfSum_2 ++ dktX51_stateOfSum_3
def dkwX51_stateOfSum_1 : List UInt8 := [20, 0, 120, 182, 0, 168, 61, 42, 27, 28, 42, 180, 0, 51, 160, 0, 7, 4, 167, 0, 4, 3, 2]
abbrev dktX51_stateOfSum_1 : List UInt8 := dkwX51_stateOfSum_1 ++ dktX51_stateOfSum_2
def dkwX51_stateOfSum_0 : List UInt8 := [42, 27, 4, 2, 182, 0, 194, 42, 180, 0, 188, 2, 159, 0, 5, 5, 172, 42, 42, 180, 0, 191]
abbrev dktX51_stateOfSum_0 : List UInt8 := dkwX51_stateOfSum_0 ++ dktX51_stateOfSum_1
theorem dksX51_stateOfSum_0 : cX51_stateOfSum.data.toList.drop 0 = dktX51_stateOfSum_0 := by decide +kernel
theorem dksX51_stateOfSum_1 : cX51_stateOfSum.data.toList.drop 22 = dktX51_stateOfSum_1 := dk_seg dksX51_stateOfSum_0 22 rfl rfl
theorem dksX51_stateOfSum_2 : cX51_stateOfSum.data.toList.drop 45 = dktX51_stateOfSum_2 := dk_seg dksX51_stateOfSum_1 23 rfl rfl
theorem dksX51_stateOfSum_3 : cX51_stateOfSum.data.toList.drop 69 = dktX51_stateOfSum_3 := dk_seg dksX51_stateOfSum_2 24 rfl rfl
theorem dksX51_stateOfSum_4 : cX51_stateOfSum.data.toList.drop 92 = dktX51_stateOfSum_4 := dk_seg dksX51_stateOfSum_3 23 rfl rfl
theorem dX51_stateOfSum_0 : decode cX51_stateOfSum 0 = .ok (.aload_n 0, 1) := dk_42 (dk_at dksX51_stateOfSum_0 0 rfl rfl)
theorem dX51_stateOfSum_1 : decode cX51_stateOfSum 1 = .ok (.iload_n 1, 1) := dk_27 (dk_at dksX51_stateOfSum_0 1 rfl rfl)
theorem dX51_stateOfSum_2 : decode cX51_stateOfSum 2 = .ok (.iconst 1, 1) := dk_4 (dk_at dksX51_stateOfSum_0 2 rfl rfl)
theorem dX51_stateOfSum_3 : decode cX51_stateOfSum 3 = .ok (.iconst (-1), 1) := dk_2 (dk_at dksX51_stateOfSum_0 3 rfl rfl)
theorem dX51_stateOfSum_4 : decode cX51_stateOfSum 4 = .ok (.invokevirtual 194, 3) := dk_182 0 194 (dk_at dksX51_stateOfSum_0 4 rfl rfl)
theorem dX51_stateOfSum_7 : decode cX51_stateOfSum 7 = .ok (.aload_n 0, 1) := dk_42 (dk_at dksX51_stateOfSum_0 7 rfl rfl)
theorem dX51_stateOfSum_8 : decode cX51_stateOfSum 8 = .ok (.getfield 188, 3) := dk_180 0 188 (dk_at dksX51_stateOfSum_0 8 rfl rfl)
theorem dX51_stateOfSum_11 : decode cX51_stateOfSum 11 = .ok (.iconst (-1), 1) := dk_2 (dk_at dksX51_stateOfSum_0 11 rfl rfl)
theorem dX51_stateOfSum_12 : decode cX51_stateOfSum 12 = .ok (.if_icmp .eq 5, 3) := dk_159 0 5 (dk_at dksX51_stateOfSum_0 12 rfl rfl)
theorem dX51_stateOfSum_15 : decode cX51_stateOfSum 15 = .ok (.iconst 2, 1) := dk_5 (dk_at dksX51_stateOfSum_0 15 rfl rfl)
theorem dX51_stateOfSum_16 : decode cX51_stateOfSum 16 = .ok (.ireturn, 1) := dk_172 (dk_at dksX51_stateOfSum_0 16 rfl rfl)
theorem dX51_stateOfSum_17 : decode cX51_stateOfSum 17 = .ok (.aload_n 0, 1) := dk_42 (dk_at dksX51_stateOfSum_0 17 rfl rfl)
theorem dX51_stateOfSum_18 : decode cX51_stateOfSum 18 = .ok (.aload_n 0, 1) := dk_42 (dk_at dksX51_stateOfSum_0 18 rfl rfl)
theorem dX51_stateOfSum_19 : decode cX51_stateOfSum 19 = .ok (.getfield 191, 3) := dk_180 0 191 (dk_at dksX51_stateOfSum_0 19 rfl rfl)
theorem dX51_stateOfSum_22 : decode cX51_stateOfSum 22 = .ok (.ldc2_w 120, 3) := dk_20 0 120 (dk_at dksX51_stateOfSum_1 0 rfl rfl)
theorem dX51_stateOfSum_25 : decode cX51_stateOfSum 25 = .ok (.invokevirtual 168, 3) := dk_182 0 168 (dk_at dksX51_stateOfSum_1 3 rfl rfl)
theorem dX51_stateOfSum_28 : decode cX51_stateOfSum 28 = .ok (.istore_n 2, 1) := dk_61 (dk_at dksX51_stateOfSum_1 6 rfl rfl)
theorem dX51_stateOfSum_29 : decode cX51_stateOfSum 29 = .ok (.aload_n 0, 1) := dk_42 (dk_at dksX51_stateOfSum_1 7 rfl rfl)
theorem dX51_stateOfSum_30 : decode cX51_stateOfSum 30 = .ok (.iload_n 1, 1) := dk_27 (dk_at dksX51_stateOfSum_1 8 rfl rfl)
theorem dX51_stateOfSum_31 : decode cX51_stateOfSum 31 = .ok (.iload_n 2, 1) := dk_28 (dk_at dksX51_stateOfSum_1 9 rfl rfl)
theorem dX51_stateOfSum_32 : decode cX51_stateOfSum 32 = .ok (.aload_n 0, 1) := dk_42 (dk_at dksX51_stateOfSum_1 10 rfl rfl)
theorem dX51_stateOfSum_33 : decode cX51_stateOfSum 33 = .ok (.getfield 51, 3) := dk_180 0 51 (dk_at dksX51_stateOfSum_1 11 rfl rfl)
theorem dX51_stateOfSum_36 : decode cX51_stateOfSum 36 = .ok (.if_icmp .ne 7, 3) := dk_160 0 7 (dk_at dksX51_stateOfSum_1 14 rfl rfl)
theorem dX51_stateOfSum_39 : decode cX51_stateOfSum 39 = .ok (.iconst 1, 1) := dk_4 (dk_at dksX51_stateOfSum_1 17 rfl rfl)
theorem dX51_stateOfSum_40 : decode cX51_stateOfSum 40 = .ok (.goto 4, 3) := dk_167 0 4 (dk_at dksX51_stateOfSum_1 18 rfl rfl)
theorem dX51_stateOfSum_43 : decode cX51_stateOfSum 43 = .ok (.iconst 0, 1) := dk_3 (dk_at dksX51_stateOfSum_1 21 rfl rfl)
theorem dX51_stateOfSum_44 : decode cX51_stateOfSum 44 = .ok (.iconst (-1), 1) := dk_2 (dk_at dksX51_stateOfSum_1 22 rfl rfl)
theorem dX51_stateOfSum_45 : decode cX51_stateOfSum 45 = .ok (.invokevirtual 194, 3) := dk_182 0 194 (dk_at dksX51_stateOfSum_2 0 rfl rfl)
theorem dX51_stateOfSum_48 : decode cX51_stateOfSum 48 = .ok (.aload_n 0, 1) := dk_42 (dk_at dksX51_stateOfSum_2 3 rfl rfl)
theorem dX51_stateOfSum_49 : decode cX51_stateOfSum 49 = .ok (.aload_n 0, 1) := dk_42 (dk_at dksX51_stateOfSum_2 4 rfl rfl)
theorem dX51_stateOfSum_50 : decode cX51_stateOfSum 50 = .ok (.getfield 191, 3) := dk_180 0 191 (dk_at dksX51_stateOfSum_2 5 rfl rfl)
theorem dX51_stateOfSum_53 : decode cX51_stateOfSum 53 = .ok (.iconst 1, 1) := dk_4 (dk_at dksX51_stateOfSum_2 8 rfl rfl)
theorem dX51_stateOfSum_54 : decode cX51_stateOfSum 54 = .ok (.iadd, 1) := dk_96 (dk_at dksX51_stateOfSum_2 9 rfl rfl)
theorem dX51_stateOfSum_55 : decode cX51_stateOfSum 55 = .ok (.invokevirtual 172, 3) := dk_182 0 172 (dk_at dksX51_stateOfSum_2 10 rfl rfl)
theorem dX51_stateOfSum_58 : decode cX51_stateOfSum 58 = .ok (.istore_n 3, 1) := dk_62 (dk_at dksX51_stateOfSum_2 13 rfl rfl)
theorem dX51_stateOfSum_59 : decode cX51_stateOfSum 59 = .ok (.iload_n 2, 1) := dk_28 (dk_at dksX51_stateOfSum_2 14 rfl rfl)
theorem dX51_stateOfSum_60 : decode cX51_stateOfSum 60 = .ok (.ifCond .eq 21, 3) := dk_153 0 21 (dk_at dksX51_stateOfSum_2 15 rfl rfl)
theorem dX51_stateOfSum_63 : decode cX51_stateOfSum 63 = .ok (.aload_n 0, 1) := dk_42 (dk_at dksX51_stateOfSum_2 18 rfl rfl)
theorem dX51_stateOfSum_64 : decode cX51_stateOfSum 64 = .ok (.getfield 184, 3) := dk_180 0 184 (dk_at dksX51_stateOfSum_2 19 rfl rfl)
theorem dX51_stateOfSum_67 : decode cX51_stateOfSum 67 = .ok (.iload_n 3, 1) := dk_29 (dk_at dksX51_stateOfSum_2 22 rfl rfl)
theorem dX51_stateOfSum_68 : decode cX51_stateOfSum 68 = .ok (.i2l, 1) := dk_133 (dk_at dksX51_stateOfSum_2 23 rfl rfl)
theorem dX51_stateOfSum_69 : decode cX51_stateOfSum 69 = .ok (.lcmp, 1) := dk_148 (dk_at dksX51_stateOfSum_3 0 rfl rfl)
theorem dX51_stateOfSum_70 : decode cX51_stateOfSum 70 = .ok (.ifCond .le 7, 3) := dk_158 0 7 (dk_at dksX51_stateOfSum_3 1 rfl rfl)
theorem dX51_stateOfSum_73 : decode cX51_stateOfSum 73 = .ok (.iconst 1, 1) := dk_4 (dk_at dksX51_stateOfSum_3 4 rfl rfl)
theorem dX51_stateOfSum_74 : decode cX51_stateOfSum 74 = .ok (.goto 22, 3) := dk_167 0 22 (dk_at dksX51_stateOfSum_3 5 rfl rfl)
theorem dX51_stateOfSum_77 : decode cX51_stateOfSum 77 = .ok (.iconst 0, 1) := dk_3 (dk_at dksX51_stateOfSum_3 8 rfl rfl)
theorem dX51_stateOfSum_78 : decode cX51_stateOfSum 78 = .ok (.goto 18, 3) := dk_167 0 18 (dk_at dksX51_stateOfSum_3 9 rfl rfl)
theorem dX51_stateOfSum_81 : decode cX51_stateOfSum 81 = .ok (.aload_n 0, 1) := dk_42 (dk_at dksX51_stateOfSum_3 12 rfl rfl)
theorem dX51_stateOfSum_82 : decode cX51_stateOfSum 82 = .ok (.getfield 184, 3) := dk_180 0 184 (dk_at dksX51_stateOfSum_3 13 rfl rfl)
theorem dX51_stateOfSum_85 : decode cX51_stateOfSum 85 = .ok (.iload_n 3, 1) := dk_29 (dk_at dksX51_stateOfSum_3 16 rfl rfl)
theorem dX51_stateOfSum_86 : decode cX51_stateOfSum 86 = .ok (.i2l, 1) := dk_133 (dk_at dksX51_stateOfSum_3 17 rfl rfl)
theorem dX51_stateOfSum_87 : decode cX51_stateOfSum 87 = .ok (.lcmp, 1) := dk_148 (dk_at dksX51_stateOfSum_3 18 rfl rfl)
theorem dX51_stateOfSum_88 : decode cX51_stateOfSum 88 = .ok (.ifCond .ge 7, 3) := dk_156 0 7 (dk_at dksX51_stateOfSum_3 19 rfl rfl)
theorem dX51_stateOfSum_91 : decode cX51_stateOfSum 91 = .ok (.iconst 1, 1) := dk_4 (dk_at dksX51_stateOfSum_3 22 rfl rfl)
theorem dX51_stateOfSum_92 : decode cX51_stateOfSum 92 = .ok (.goto 4, 3) := dk_167 0 4 (dk_at dksX51_stateOfSum_4 0 rfl rfl)
theorem dX51_stateOfSum_95 : decode cX51_stateOfSum 95 = .ok (.iconst 0, 1) := dk_3 (dk_at dksX51_stateOfSum_4 3 rfl rfl)
theorem dX51_stateOfSum_96 : decode cX51_stateOfSum 96 = .ok (.ireturn, 1) := dk_172 (dk_at dksX51_stateOfSum_4 4 rfl rfl)
abbrev cX51_add : ByteArray := prog_60_method_27_code
def yX51_add : MethodName := ⟨RX51, "add", "(IZI)V"⟩
def dkwX51_add_12 : List UInt8 := [181, 0, 184, 167, 254, 246, 42, 21, 4, 181, 0, 191, 177]
abbrev dktX51_add_12 : List UInt8 := dkwX51_add_12 ++ []
def dkwX51_add_11 : List UInt8 := [21, 7, 159, 0, 7, 9, 167, 0, 16, 21, 5, 153, 0, 9, 22, 13, 117, 167, 0, 5, 22, 13, 97]
abbrev dktX51_add_11 : List UInt8 := dkwX51_add_11 ++ dktX51_add_12
def dkwX51_add_10 : List UInt8 := [22, 11, 21, 6, 133, 105, 21, 9, 133, 109, 55, 13, 42, 89, 180, 0, 184, 29, 2, 159, 0, 13, 29]
abbrev dktX51_add_10 : List UInt8 := dkwX51_add_10 ++ dktX51_add_11
def dkwX51_add_9 : List UInt8 := [21, 7, 46, 133, 55, 11, 22, 11, 21, 8, 133, 148, 156, 0, 7, 9, 167, 0, 5, 22, 11, 55, 11]
abbrev dktX51_add_9 : List UInt8 := dkwX51_add_9 ++ dktX51_add_10
def dkwX51_add_8 : List UInt8 := [160, 0, 96, 28, 21, 5, 160, 0, 14, 42, 180, 0, 38, 21, 7, 46, 133, 167, 0, 11, 42, 180, 0, 41]
abbrev dktX51_add_8 : List UInt8 := dkwX51_add_8 ++ dktX51_add_9
def dkwX51_add_7 : List UInt8 := [180, 0, 188, 2, 160, 0, 8, 21, 10, 167, 0, 7, 42, 180, 0, 188, 181, 0, 188, 21, 10, 2]
abbrev dktX51_add_7 : List UInt8 := dkwX51_add_7 ++ dktX51_add_8
def dkwX51_add_6 : List UInt8 := [167, 0, 18, 21, 9, 154, 0, 12, 17, 0, 200, 21, 7, 96, 167, 0, 4, 2, 54, 10, 42, 42]
abbrev dktX51_add_6 : List UInt8 := dkwX51_add_6 ++ dktX51_add_7
def dkwX51_add_5 : List UInt8 := [21, 4, 4, 96, 182, 0, 172, 54, 9, 132, 4, 2, 42, 180, 0, 44, 21, 7, 51, 154, 0, 8, 21, 7]
abbrev dktX51_add_5 : List UInt8 := dkwX51_add_5 ++ dktX51_add_6
def dkwX51_add_4 : List UInt8 := [4, 96, 182, 0, 172, 54, 8, 132, 4, 2, 42, 21, 4, 20, 0, 114, 182, 0, 168, 153, 0, 16, 42]
abbrev dktX51_add_4 : List UInt8 := dkwX51_add_4 ++ dktX51_add_5
def dkwX51_add_3 : List UInt8 := [132, 4, 4, 3, 54, 8, 4, 54, 9, 42, 21, 4, 20, 0, 111, 182, 0, 168, 153, 0, 16, 42, 21, 4]
abbrev dktX51_add_3 : List UInt8 := dkwX51_add_3 ++ dktX51_add_4
def dkwX51_add_2 : List UInt8 := [54, 5, 42, 21, 4, 4, 96, 182, 0, 172, 54, 6, 42, 21, 4, 6, 96, 182, 0, 172, 54, 7]
abbrev dktX51_add_2 : List UInt8 := dkwX51_add_2 ++ dktX51_add_3
def dkwX51_add_1 : List UInt8 := [154, 0, 15, 42, 21, 4, 20, 0, 103, 182, 0, 168, 153, 0, 248, 42, 21, 4, 20, 0, 103, 182, 0, 168]
abbrev dktX51_add_1 : List UInt8 := dkwX51_add_1 ++ dktX51_add_2
def dkwX51_add_0 : List UInt8 := [42, 9, 181, 0, 184, 42, 2, 181, 0, 188, 27, 4, 96, 54, 4, 42, 21, 4, 20, 0, 98, 182, 0, 168]
abbrev dktX51_add_0 : List UInt8 := dkwX51_add_0 ++ dktX51_add_1
theorem dksX51_add_0 : cX51_add.data.toList.drop 0 = dktX51_add_0 := by decide +kernel
theorem dksX51_add_1 : cX51_add.data.toList.drop 24 = dktX51_add_1 := dk_seg dksX51_add_0 24 rfl rfl
theorem dksX51_add_2 : cX51_add.data.toList.drop 48 = dktX51_add_2 := dk_seg dksX51_add_1 24 rfl rfl
theorem dksX51_add_3 : cX51_add.data.toList.drop 70 = dktX51_add_3 := dk_seg dksX51_add_2 22 rfl rfl
theorem dksX51_add_4 : cX51_add.data.toList.drop 94 = dktX51_add_4 := dk_seg dksX51_add_3 24 rfl rfl
theorem dksX51_add_5 : cX51_add.data.toList.drop 117 = dktX51_add_5 := dk_seg dksX51_add_4 23 rfl rfl
theorem dksX51_add_6 : cX51_add.data.toList.drop 141 = dktX51_add_6 := dk_seg dksX51_add_5 24 rfl rfl
theorem dksX51_add_7 : cX51_add.data.toList.drop 163 = dktX51_add_7 := dk_seg dksX51_add_6 22 rfl rfl
theorem dksX51_add_8 : cX51_add.data.toList.drop 185 = dktX51_add_8 := dk_seg dksX51_add_7 22 rfl rfl
theorem dksX51_add_9 : cX51_add.data.toList.drop 209 = dktX51_add_9 := dk_seg dksX51_add_8 24 rfl rfl
theorem dksX51_add_10 : cX51_add.data.toList.drop 232 = dktX51_add_10 := dk_seg dksX51_add_9 23 rfl rfl
theorem dksX51_add_11 : cX51_add.data.toList.drop 255 = dktX51_add_11 := dk_seg dksX51_add_10 23 rfl rfl
theorem dksX51_add_12 : cX51_add.data.toList.drop 278 = dktX51_add_12 := dk_seg dksX51_add_11 23 rfl rfl
theorem dX51_add_0 : decode cX51_add 0 = .ok (.aload_n 0, 1) := dk_42 (dk_at dksX51_add_0 0 rfl rfl)
theorem dX51_add_1 : decode cX51_add 1 = .ok (.lconst 0, 1) := dk_9 (dk_at dksX51_add_0 1 rfl rfl)
theorem dX51_add_2 : decode cX51_add 2 = .ok (.putfield 184, 3) := dk_181 0 184 (dk_at dksX51_add_0 2 rfl rfl)
theorem dX51_add_5 : decode cX51_add 5 = .ok (.aload_n 0, 1) := dk_42 (dk_at dksX51_add_0 5 rfl rfl)
theorem dX51_add_6 : decode cX51_add 6 = .ok (.iconst (-1), 1) := dk_2 (dk_at dksX51_add_0 6 rfl rfl)
theorem dX51_add_7 : decode cX51_add 7 = .ok (.putfield 188, 3) := dk_181 0 188 (dk_at dksX51_add_0 7 rfl rfl)
theorem dX51_add_10 : decode cX51_add 10 = .ok (.iload_n 1, 1) := dk_27 (dk_at dksX51_add_0 10 rfl rfl)
theorem dX51_add_11 : decode cX51_add 11 = .ok (.iconst 1, 1) := dk_4 (dk_at dksX51_add_0 11 rfl rfl)
theorem dX51_add_12 : decode cX51_add 12 = .ok (.iadd, 1) := dk_96 (dk_at dksX51_add_0 12 rfl rfl)
theorem dX51_add_13 : decode cX51_add 13 = .ok (.istore 4, 2) := dk_54 4 (dk_at dksX51_add_0 13 rfl rfl)
theorem dX51_add_15 : decode cX51_add 15 = .ok (.aload_n 0, 1) := dk_42 (dk_at dksX51_add_0 15 rfl rfl)
theorem dX51_add_16 : decode cX51_add 16 = .ok (.iload 4, 2) := dk_21 4 (dk_at dksX51_add_0 16 rfl rfl)
theorem dX51_add_18 : decode cX51_add 18 = .ok (.ldc2_w 98, 3) := dk_20 0 98 (dk_at dksX51_add_0 18 rfl rfl)
theorem dX51_add_21 : decode cX51_add 21 = .ok (.invokevirtual 168, 3) := dk_182 0 168 (dk_at dksX51_add_0 21 rfl rfl)
theorem dX51_add_24 : decode cX51_add 24 = .ok (.ifCond .ne 15, 3) := dk_154 0 15 (dk_at dksX51_add_1 0 rfl rfl)
theorem dX51_add_27 : decode cX51_add 27 = .ok (.aload_n 0, 1) := dk_42 (dk_at dksX51_add_1 3 rfl rfl)
theorem dX51_add_28 : decode cX51_add 28 = .ok (.iload 4, 2) := dk_21 4 (dk_at dksX51_add_1 4 rfl rfl)
theorem dX51_add_30 : decode cX51_add 30 = .ok (.ldc2_w 103, 3) := dk_20 0 103 (dk_at dksX51_add_1 6 rfl rfl)
theorem dX51_add_33 : decode cX51_add 33 = .ok (.invokevirtual 168, 3) := dk_182 0 168 (dk_at dksX51_add_1 9 rfl rfl)
theorem dX51_add_36 : decode cX51_add 36 = .ok (.ifCond .eq 248, 3) := dk_153 0 248 (dk_at dksX51_add_1 12 rfl rfl)
theorem dX51_add_39 : decode cX51_add 39 = .ok (.aload_n 0, 1) := dk_42 (dk_at dksX51_add_1 15 rfl rfl)
theorem dX51_add_40 : decode cX51_add 40 = .ok (.iload 4, 2) := dk_21 4 (dk_at dksX51_add_1 16 rfl rfl)
theorem dX51_add_42 : decode cX51_add 42 = .ok (.ldc2_w 103, 3) := dk_20 0 103 (dk_at dksX51_add_1 18 rfl rfl)
theorem dX51_add_45 : decode cX51_add 45 = .ok (.invokevirtual 168, 3) := dk_182 0 168 (dk_at dksX51_add_1 21 rfl rfl)
theorem dX51_add_48 : decode cX51_add 48 = .ok (.istore 5, 2) := dk_54 5 (dk_at dksX51_add_2 0 rfl rfl)
theorem dX51_add_50 : decode cX51_add 50 = .ok (.aload_n 0, 1) := dk_42 (dk_at dksX51_add_2 2 rfl rfl)
theorem dX51_add_51 : decode cX51_add 51 = .ok (.iload 4, 2) := dk_21 4 (dk_at dksX51_add_2 3 rfl rfl)
theorem dX51_add_53 : decode cX51_add 53 = .ok (.iconst 1, 1) := dk_4 (dk_at dksX51_add_2 5 rfl rfl)
theorem dX51_add_54 : decode cX51_add 54 = .ok (.iadd, 1) := dk_96 (dk_at dksX51_add_2 6 rfl rfl)
theorem dX51_add_55 : decode cX51_add 55 = .ok (.invokevirtual 172, 3) := dk_182 0 172 (dk_at dksX51_add_2 7 rfl rfl)
theorem dX51_add_58 : decode cX51_add 58 = .ok (.istore 6, 2) := dk_54 6 (dk_at dksX51_add_2 10 rfl rfl)
theorem dX51_add_60 : decode cX51_add 60 = .ok (.aload_n 0, 1) := dk_42 (dk_at dksX51_add_2 12 rfl rfl)
theorem dX51_add_61 : decode cX51_add 61 = .ok (.iload 4, 2) := dk_21 4 (dk_at dksX51_add_2 13 rfl rfl)
theorem dX51_add_63 : decode cX51_add 63 = .ok (.iconst 3, 1) := dk_6 (dk_at dksX51_add_2 15 rfl rfl)
theorem dX51_add_64 : decode cX51_add 64 = .ok (.iadd, 1) := dk_96 (dk_at dksX51_add_2 16 rfl rfl)
theorem dX51_add_65 : decode cX51_add 65 = .ok (.invokevirtual 172, 3) := dk_182 0 172 (dk_at dksX51_add_2 17 rfl rfl)
theorem dX51_add_68 : decode cX51_add 68 = .ok (.istore 7, 2) := dk_54 7 (dk_at dksX51_add_2 20 rfl rfl)
theorem dX51_add_70 : decode cX51_add 70 = .ok (.iinc 4 4, 3) := dk_132 4 4 (dk_at dksX51_add_3 0 rfl rfl)
theorem dX51_add_73 : decode cX51_add 73 = .ok (.iconst 0, 1) := dk_3 (dk_at dksX51_add_3 3 rfl rfl)
theorem dX51_add_74 : decode cX51_add 74 = .ok (.istore 8, 2) := dk_54 8 (dk_at dksX51_add_3 4 rfl rfl)
theorem dX51_add_76 : decode cX51_add 76 = .ok (.iconst 1, 1) := dk_4 (dk_at dksX51_add_3 6 rfl rfl)
theorem dX51_add_77 : decode cX51_add 77 = .ok (.istore 9, 2) := dk_54 9 (dk_at dksX51_add_3 7 rfl rfl)
theorem dX51_add_79 : decode cX51_add 79 = .ok (.aload_n 0, 1) := dk_42 (dk_at dksX51_add_3 9 rfl rfl)
theorem dX51_add_80 : decode cX51_add 80 = .ok (.iload 4, 2) := dk_21 4 (dk_at dksX51_add_3 10 rfl rfl)
theorem dX51_add_82 : decode cX51_add 82 = .ok (.ldc2_w 111, 3) := dk_20 0 111 (dk_at dksX51_add_3 12 rfl rfl)
theorem dX51_add_85 : decode cX51_add 85 = .ok (.invokevirtual 168, 3) := dk_182 0 168 (dk_at dksX51_add_3 15 rfl rfl)
theorem dX51_add_88 : decode cX51_add 88 = .ok (.ifCond .eq 16, 3) := dk_153 0 16 (dk_at dksX51_add_3 18 rfl rfl)
theorem dX51_add_91 : decode cX51_add 91 = .ok (.aload_n 0, 1) := dk_42 (dk_at dksX51_add_3 21 rfl rfl)
theorem dX51_add_92 : decode cX51_add 92 = .ok (.iload 4, 2) := dk_21 4 (dk_at dksX51_add_3 22 rfl rfl)
theorem dX51_add_94 : decode cX51_add 94 = .ok (.iconst 1, 1) := dk_4 (dk_at dksX51_add_4 0 rfl rfl)
theorem dX51_add_95 : decode cX51_add 95 = .ok (.iadd, 1) := dk_96 (dk_at dksX51_add_4 1 rfl rfl)
theorem dX51_add_96 : decode cX51_add 96 = .ok (.invokevirtual 172, 3) := dk_182 0 172 (dk_at dksX51_add_4 2 rfl rfl)
theorem dX51_add_99 : decode cX51_add 99 = .ok (.istore 8, 2) := dk_54 8 (dk_at dksX51_add_4 5 rfl rfl)
theorem dX51_add_101 : decode cX51_add 101 = .ok (.iinc 4 2, 3) := dk_132 4 2 (dk_at dksX51_add_4 7 rfl rfl)
theorem dX51_add_104 : decode cX51_add 104 = .ok (.aload_n 0, 1) := dk_42 (dk_at dksX51_add_4 10 rfl rfl)
theorem dX51_add_105 : decode cX51_add 105 = .ok (.iload 4, 2) := dk_21 4 (dk_at dksX51_add_4 11 rfl rfl)
theorem dX51_add_107 : decode cX51_add 107 = .ok (.ldc2_w 114, 3) := dk_20 0 114 (dk_at dksX51_add_4 13 rfl rfl)
theorem dX51_add_110 : decode cX51_add 110 = .ok (.invokevirtual 168, 3) := dk_182 0 168 (dk_at dksX51_add_4 16 rfl rfl)
theorem dX51_add_113 : decode cX51_add 113 = .ok (.ifCond .eq 16, 3) := dk_153 0 16 (dk_at dksX51_add_4 19 rfl rfl)
theorem dX51_add_116 : decode cX51_add 116 = .ok (.aload_n 0, 1) := dk_42 (dk_at dksX51_add_4 22 rfl rfl)
theorem dX51_add_117 : decode cX51_add 117 = .ok (.iload 4, 2) := dk_21 4 (dk_at dksX51_add_5 0 rfl rfl)
theorem dX51_add_119 : decode cX51_add 119 = .ok (.iconst 1, 1) := dk_4 (dk_at dksX51_add_5 2 rfl rfl)
theorem dX51_add_120 : decode cX51_add 120 = .ok (.iadd, 1) := dk_96 (dk_at dksX51_add_5 3 rfl rfl)
theorem dX51_add_121 : decode cX51_add 121 = .ok (.invokevirtual 172, 3) := dk_182 0 172 (dk_at dksX51_add_5 4 rfl rfl)
theorem dX51_add_124 : decode cX51_add 124 = .ok (.istore 9, 2) := dk_54 9 (dk_at dksX51_add_5 7 rfl rfl)
theorem dX51_add_126 : decode cX51_add 126 = .ok (.iinc 4 2, 3) := dk_132 4 2 (dk_at dksX51_add_5 9 rfl rfl)
theorem dX51_add_129 : decode cX51_add 129 = .ok (.aload_n 0, 1) := dk_42 (dk_at dksX51_add_5 12 rfl rfl)
theorem dX51_add_130 : decode cX51_add 130 = .ok (.getfield 44, 3) := dk_180 0 44 (dk_at dksX51_add_5 13 rfl rfl)
theorem dX51_add_133 : decode cX51_add 133 = .ok (.iload 7, 2) := dk_21 7 (dk_at dksX51_add_5 16 rfl rfl)
theorem dX51_add_135 : decode cX51_add 135 = .ok (.baload, 1) := dk_51 (dk_at dksX51_add_5 18 rfl rfl)
theorem dX51_add_136 : decode cX51_add 136 = .ok (.ifCond .ne 8, 3) := dk_154 0 8 (dk_at dksX51_add_5 19 rfl rfl)
theorem dX51_add_139 : decode cX51_add 139 = .ok (.iload 7, 2) := dk_21 7 (dk_at dksX51_add_5 22 rfl rfl)
theorem dX51_add_141 : decode cX51_add 141 = .ok (.goto 18, 3) := dk_167 0 18 (dk_at dksX51_add_6 0 rfl rfl)
theorem dX51_add_144 : decode cX51_add 144 = .ok (.iload 9, 2) := dk_21 9 (dk_at dksX51_add_6 3 rfl rfl)
theorem dX51_add_146 : decode cX51_add 146 = .ok (.ifCond .ne 12, 3) := dk_154 0 12 (dk_at dksX51_add_6 5 rfl rfl)
theorem dX51_add_149 : decode cX51_add 149 = .ok (.sipush 200, 3) := dk_17 0 200 (dk_at dksX51_add_6 8 rfl rfl)
theorem dX51_add_152 : decode cX51_add 152 = .ok (.iload 7, 2) := dk_21 7 (dk_at dksX51_add_6 11 rfl rfl)
theorem dX51_add_154 : decode cX51_add 154 = .ok (.iadd, 1) := dk_96 (dk_at dksX51_add_6 13 rfl rfl)
theorem dX51_add_155 : decode cX51_add 155 = .ok (.goto 4, 3) := dk_167 0 4 (dk_at dksX51_add_6 14 rfl rfl)
theorem dX51_add_158 : decode cX51_add 158 = .ok (.iconst (-1), 1) := dk_2 (dk_at dksX51_add_6 17 rfl rfl)
theorem dX51_add_159 : decode cX51_add 159 = .ok (.istore 10, 2) := dk_54 10 (dk_at dksX51_add_6 18 rfl rfl)
theorem dX51_add_161 : decode cX51_add 161 = .ok (.aload_n 0, 1) := dk_42 (dk_at dksX51_add_6 20 rfl rfl)
theorem dX51_add_162 : decode cX51_add 162 = .ok (.aload_n 0, 1) := dk_42 (dk_at dksX51_add_6 21 rfl rfl)
theorem dX51_add_163 : decode cX51_add 163 = .ok (.getfield 188, 3) := dk_180 0 188 (dk_at dksX51_add_7 0 rfl rfl)
theorem dX51_add_166 : decode cX51_add 166 = .ok (.iconst (-1), 1) := dk_2 (dk_at dksX51_add_7 3 rfl rfl)
theorem dX51_add_167 : decode cX51_add 167 = .ok (.if_icmp .ne 8, 3) := dk_160 0 8 (dk_at dksX51_add_7 4 rfl rfl)
theorem dX51_add_170 : decode cX51_add 170 = .ok (.iload 10, 2) := dk_21 10 (dk_at dksX51_add_7 7 rfl rfl)
theorem dX51_add_172 : decode cX51_add 172 = .ok (.goto 7, 3) := dk_167 0 7 (dk_at dksX51_add_7 9 rfl rfl)
theorem dX51_add_175 : decode cX51_add 175 = .ok (.aload_n 0, 1) := dk_42 (dk_at dksX51_add_7 12 rfl rfl)
theorem dX51_add_176 : decode cX51_add 176 = .ok (.getfield 188, 3) := dk_180 0 188 (dk_at dksX51_add_7 13 rfl rfl)
theorem dX51_add_179 : decode cX51_add 179 = .ok (.putfield 188, 3) := dk_181 0 188 (dk_at dksX51_add_7 16 rfl rfl)
theorem dX51_add_182 : decode cX51_add 182 = .ok (.iload 10, 2) := dk_21 10 (dk_at dksX51_add_7 19 rfl rfl)
theorem dX51_add_184 : decode cX51_add 184 = .ok (.iconst (-1), 1) := dk_2 (dk_at dksX51_add_7 21 rfl rfl)
theorem dX51_add_185 : decode cX51_add 185 = .ok (.if_icmp .ne 96, 3) := dk_160 0 96 (dk_at dksX51_add_8 0 rfl rfl)
theorem dX51_add_188 : decode cX51_add 188 = .ok (.iload_n 2, 1) := dk_28 (dk_at dksX51_add_8 3 rfl rfl)
theorem dX51_add_189 : decode cX51_add 189 = .ok (.iload 5, 2) := dk_21 5 (dk_at dksX51_add_8 4 rfl rfl)
theorem dX51_add_191 : decode cX51_add 191 = .ok (.if_icmp .ne 14, 3) := dk_160 0 14 (dk_at dksX51_add_8 6 rfl rfl)
theorem dX51_add_194 : decode cX51_add 194 = .ok (.aload_n 0, 1) := dk_42 (dk_at dksX51_add_8 9 rfl rfl)
theorem dX51_add_195 : decode cX51_add 195 = .ok (.getfield 38, 3) := dk_180 0 38 (dk_at dksX51_add_8 10 rfl rfl)
theorem dX51_add_198 : decode cX51_add 198 = .ok (.iload 7, 2) := dk_21 7 (dk_at dksX51_add_8 13 rfl rfl)
theorem dX51_add_200 : decode cX51_add 200 = .ok (.iaload, 1) := dk_46 (dk_at dksX51_add_8 15 rfl rfl)
theorem dX51_add_201 : decode cX51_add 201 = .ok (.i2l, 1) := dk_133 (dk_at dksX51_add_8 16 rfl rfl)
theorem dX51_add_202 : decode cX51_add 202 = .ok (.goto 11, 3) := dk_167 0 11 (dk_at dksX51_add_8 17 rfl rfl)
theorem dX51_add_205 : decode cX51_add 205 = .ok (.aload_n 0, 1) := dk_42 (dk_at dksX51_add_8 20 rfl rfl)
theorem dX51_add_206 : decode cX51_add 206 = .ok (.getfield 41, 3) := dk_180 0 41 (dk_at dksX51_add_8 21 rfl rfl)
theorem dX51_add_209 : decode cX51_add 209 = .ok (.iload 7, 2) := dk_21 7 (dk_at dksX51_add_9 0 rfl rfl)
theorem dX51_add_211 : decode cX51_add 211 = .ok (.iaload, 1) := dk_46 (dk_at dksX51_add_9 2 rfl rfl)
theorem dX51_add_212 : decode cX51_add 212 = .ok (.i2l, 1) := dk_133 (dk_at dksX51_add_9 3 rfl rfl)
theorem dX51_add_213 : decode cX51_add 213 = .ok (.lstore 11, 2) := dk_55 11 (dk_at dksX51_add_9 4 rfl rfl)
theorem dX51_add_215 : decode cX51_add 215 = .ok (.lload 11, 2) := dk_22 11 (dk_at dksX51_add_9 6 rfl rfl)
theorem dX51_add_217 : decode cX51_add 217 = .ok (.iload 8, 2) := dk_21 8 (dk_at dksX51_add_9 8 rfl rfl)
theorem dX51_add_219 : decode cX51_add 219 = .ok (.i2l, 1) := dk_133 (dk_at dksX51_add_9 10 rfl rfl)
theorem dX51_add_220 : decode cX51_add 220 = .ok (.lcmp, 1) := dk_148 (dk_at dksX51_add_9 11 rfl rfl)
theorem dX51_add_221 : decode cX51_add 221 = .ok (.ifCond .ge 7, 3) := dk_156 0 7 (dk_at dksX51_add_9 12 rfl rfl)
theorem dX51_add_224 : decode cX51_add 224 = .ok (.lconst 0, 1) := dk_9 (dk_at dksX51_add_9 15 rfl rfl)
theorem dX51_add_225 : decode cX51_add 225 = .ok (.goto 5, 3) := dk_167 0 5 (dk_at dksX51_add_9 16 rfl rfl)
theorem dX51_add_228 : decode cX51_add 228 = .ok (.lload 11, 2) := dk_22 11 (dk_at dksX51_add_9 19 rfl rfl)
theorem dX51_add_230 : decode cX51_add 230 = .ok (.lstore 11, 2) := dk_55 11 (dk_at dksX51_add_9 21 rfl rfl)
theorem dX51_add_232 : decode cX51_add 232 = .ok (.lload 11, 2) := dk_22 11 (dk_at dksX51_add_10 0 rfl rfl)
theorem dX51_add_234 : decode cX51_add 234 = .ok (.iload 6, 2) := dk_21 6 (dk_at dksX51_add_10 2 rfl rfl)
theorem dX51_add_236 : decode cX51_add 236 = .ok (.i2l, 1) := dk_133 (dk_at dksX51_add_10 4 rfl rfl)
theorem dX51_add_237 : decode cX51_add 237 = .ok (.lmul, 1) := dk_105 (dk_at dksX51_add_10 5 rfl rfl)
theorem dX51_add_238 : decode cX51_add 238 = .ok (.iload 9, 2) := dk_21 9 (dk_at dksX51_add_10 6 rfl rfl)
theorem dX51_add_240 : decode cX51_add 240 = .ok (.i2l, 1) := dk_133 (dk_at dksX51_add_10 8 rfl rfl)
theorem dX51_add_241 : decode cX51_add 241 = .ok (.ldiv, 1) := dk_109 (dk_at dksX51_add_10 9 rfl rfl)
theorem dX51_add_242 : decode cX51_add 242 = .ok (.lstore 13, 2) := dk_55 13 (dk_at dksX51_add_10 10 rfl rfl)
theorem dX51_add_244 : decode cX51_add 244 = .ok (.aload_n 0, 1) := dk_42 (dk_at dksX51_add_10 12 rfl rfl)
theorem dX51_add_245 : decode cX51_add 245 = .ok (.dup, 1) := dk_89 (dk_at dksX51_add_10 13 rfl rfl)
theorem dX51_add_246 : decode cX51_add 246 = .ok (.getfield 184, 3) := dk_180 0 184 (dk_at dksX51_add_10 14 rfl rfl)
theorem dX51_add_249 : decode cX51_add 249 = .ok (.iload_n 3, 1) := dk_29 (dk_at dksX51_add_10 17 rfl rfl)
theorem dX51_add_250 : decode cX51_add 250 = .ok (.iconst (-1), 1) := dk_2 (dk_at dksX51_add_10 18 rfl rfl)
theorem dX51_add_251 : decode cX51_add 251 = .ok (.if_icmp .eq 13, 3) := dk_159 0 13 (dk_at dksX51_add_10 19 rfl rfl)
theorem dX51_add_254 : decode cX51_add 254 = .ok (.iload_n 3, 1) := dk_29 (dk_at dksX51_add_10 22 rfl rfl)
theorem dX51_add_255 : decode cX51_add 255 = .ok (.iload 7, 2) := dk_21 7 (dk_at dksX51_add_11 0 rfl rfl)
theorem dX51_add_257 : decode cX51_add 257 = .ok (.if_icmp .eq 7, 3) := dk_159 0 7 (dk_at dksX51_add_11 2 rfl rfl)
theorem dX51_add_260 : decode cX51_add 260 = .ok (.lconst 0, 1) := dk_9 (dk_at dksX51_add_11 5 rfl rfl)
theorem dX51_add_261 : decode cX51_add 261 = .ok (.goto 16, 3) := dk_167 0 16 (dk_at dksX51_add_11 6 rfl rfl)
theorem dX51_add_264 : decode cX51_add 264 = .ok (.iload 5, 2) := dk_21 5 (dk_at dksX51_add_11 9 rfl rfl)
theorem dX51_add_266 : decode cX51_add 266 = .ok (.ifCond .eq 9, 3) := dk_153 0 9 (dk_at dksX51_add_11 11 rfl rfl)
theorem dX51_add_269 : decode cX51_add 269 = .ok (.lload 13, 2) := dk_22 13 (dk_at dksX51_add_11 14 rfl rfl)
theorem dX51_add_271 : decode cX51_add 271 = .ok (.lneg, 1) := dk_117 (dk_at dksX51_add_11 16 rfl rfl)
theorem dX51_add_272 : decode cX51_add 272 = .ok (.goto 5, 3) := dk_167 0 5 (dk_at dksX51_add_11 17 rfl rfl)
theorem dX51_add_275 : decode cX51_add 275 = .ok (.lload 13, 2) := dk_22 13 (dk_at dksX51_add_11 20 rfl rfl)
theorem dX51_add_277 : decode cX51_add 277 = .ok (.ladd, 1) := dk_97 (dk_at dksX51_add_11 22 rfl rfl)
theorem dX51_add_278 : decode cX51_add 278 = .ok (.putfield 184, 3) := dk_181 0 184 (dk_at dksX51_add_12 0 rfl rfl)
theorem dX51_add_281 : decode cX51_add 281 = .ok (.goto (-266), 3) := dk_167 254 246 (dk_at dksX51_add_12 3 rfl rfl)
theorem dX51_add_284 : decode cX51_add 284 = .ok (.aload_n 0, 1) := dk_42 (dk_at dksX51_add_12 6 rfl rfl)
theorem dX51_add_285 : decode cX51_add 285 = .ok (.iload 4, 2) := dk_21 4 (dk_at dksX51_add_12 7 rfl rfl)
theorem dX51_add_287 : decode cX51_add 287 = .ok (.putfield 191, 3) := dk_181 0 191 (dk_at dksX51_add_12 9 rfl rfl)
theorem dX51_add_290 : decode cX51_add 290 = .ok (.return_, 1) := dk_177 (dk_at dksX51_add_12 12 rfl rfl)
abbrev cX51_holds : ByteArray := prog_60_method_35_code
def yX51_holds : MethodName := ⟨RX51, "holds", "(I)Z"⟩
def dkwX51_holds_1 : List UInt8 := [160, 0, 7, 4, 167, 0, 4, 3, 61, 132, 3, 1, 167, 255, 225, 28, 172]
abbrev dktX51_holds_1 : List UInt8 := dkwX51_holds_1 ++ []
def dkwX51_holds_0 : List UInt8 := [3, 61, 3, 62, 29, 42, 180, 0, 179, 162, 0, 29, 28, 154, 0, 13, 42, 180, 0, 65, 29, 46, 27]
abbrev dktX51_holds_0 : List UInt8 := dkwX51_holds_0 ++ dktX51_holds_1
theorem dksX51_holds_0 : cX51_holds.data.toList.drop 0 = dktX51_holds_0 := by decide +kernel
theorem dksX51_holds_1 : cX51_holds.data.toList.drop 23 = dktX51_holds_1 := dk_seg dksX51_holds_0 23 rfl rfl
theorem dX51_holds_0 : decode cX51_holds 0 = .ok (.iconst 0, 1) := dk_3 (dk_at dksX51_holds_0 0 rfl rfl)
theorem dX51_holds_1 : decode cX51_holds 1 = .ok (.istore_n 2, 1) := dk_61 (dk_at dksX51_holds_0 1 rfl rfl)
theorem dX51_holds_2 : decode cX51_holds 2 = .ok (.iconst 0, 1) := dk_3 (dk_at dksX51_holds_0 2 rfl rfl)
theorem dX51_holds_3 : decode cX51_holds 3 = .ok (.istore_n 3, 1) := dk_62 (dk_at dksX51_holds_0 3 rfl rfl)
theorem dX51_holds_4 : decode cX51_holds 4 = .ok (.iload_n 3, 1) := dk_29 (dk_at dksX51_holds_0 4 rfl rfl)
theorem dX51_holds_5 : decode cX51_holds 5 = .ok (.aload_n 0, 1) := dk_42 (dk_at dksX51_holds_0 5 rfl rfl)
theorem dX51_holds_6 : decode cX51_holds 6 = .ok (.getfield 179, 3) := dk_180 0 179 (dk_at dksX51_holds_0 6 rfl rfl)
theorem dX51_holds_9 : decode cX51_holds 9 = .ok (.if_icmp .ge 29, 3) := dk_162 0 29 (dk_at dksX51_holds_0 9 rfl rfl)
theorem dX51_holds_12 : decode cX51_holds 12 = .ok (.iload_n 2, 1) := dk_28 (dk_at dksX51_holds_0 12 rfl rfl)
theorem dX51_holds_13 : decode cX51_holds 13 = .ok (.ifCond .ne 13, 3) := dk_154 0 13 (dk_at dksX51_holds_0 13 rfl rfl)
theorem dX51_holds_16 : decode cX51_holds 16 = .ok (.aload_n 0, 1) := dk_42 (dk_at dksX51_holds_0 16 rfl rfl)
theorem dX51_holds_17 : decode cX51_holds 17 = .ok (.getfield 65, 3) := dk_180 0 65 (dk_at dksX51_holds_0 17 rfl rfl)
theorem dX51_holds_20 : decode cX51_holds 20 = .ok (.iload_n 3, 1) := dk_29 (dk_at dksX51_holds_0 20 rfl rfl)
theorem dX51_holds_21 : decode cX51_holds 21 = .ok (.iaload, 1) := dk_46 (dk_at dksX51_holds_0 21 rfl rfl)
theorem dX51_holds_22 : decode cX51_holds 22 = .ok (.iload_n 1, 1) := dk_27 (dk_at dksX51_holds_0 22 rfl rfl)
theorem dX51_holds_23 : decode cX51_holds 23 = .ok (.if_icmp .ne 7, 3) := dk_160 0 7 (dk_at dksX51_holds_1 0 rfl rfl)
theorem dX51_holds_26 : decode cX51_holds 26 = .ok (.iconst 1, 1) := dk_4 (dk_at dksX51_holds_1 3 rfl rfl)
theorem dX51_holds_27 : decode cX51_holds 27 = .ok (.goto 4, 3) := dk_167 0 4 (dk_at dksX51_holds_1 4 rfl rfl)
theorem dX51_holds_30 : decode cX51_holds 30 = .ok (.iconst 0, 1) := dk_3 (dk_at dksX51_holds_1 7 rfl rfl)
theorem dX51_holds_31 : decode cX51_holds 31 = .ok (.istore_n 2, 1) := dk_61 (dk_at dksX51_holds_1 8 rfl rfl)
theorem dX51_holds_32 : decode cX51_holds 32 = .ok (.iinc 3 1, 3) := dk_132 3 1 (dk_at dksX51_holds_1 9 rfl rfl)
theorem dX51_holds_35 : decode cX51_holds 35 = .ok (.goto (-31), 3) := dk_167 255 225 (dk_at dksX51_holds_1 12 rfl rfl)
theorem dX51_holds_38 : decode cX51_holds 38 = .ok (.iload_n 2, 1) := dk_28 (dk_at dksX51_holds_1 15 rfl rfl)
theorem dX51_holds_39 : decode cX51_holds 39 = .ok (.ireturn, 1) := dk_172 (dk_at dksX51_holds_1 16 rfl rfl)
abbrev cX51_open : ByteArray := prog_60_method_44_code
def yX51_open : MethodName := ⟨RX51, "open", "(II)I"⟩
def dkwX51_open_2 : List UInt8 := [180, 0, 62, 29, 46, 167, 0, 4, 2, 172]
abbrev dktX51_open_2 : List UInt8 := dkwX51_open_2 ++ []
def dkwX51_open_1 : List UInt8 := [167, 0, 31, 28, 4, 160, 0, 11, 42, 29, 182, 0, 198, 167, 0, 18, 28, 5, 160, 0, 12, 42]
abbrev dktX51_open_1 : List UInt8 := dkwX51_open_1 ++ dktX51_open_2
def dkwX51_open_0 : List UInt8 := [42, 3, 181, 0, 68, 42, 27, 182, 0, 247, 62, 29, 2, 160, 0, 5, 2, 172, 28, 154, 0, 7, 29]
abbrev dktX51_open_0 : List UInt8 := dkwX51_open_0 ++ dktX51_open_1
theorem dksX51_open_0 : cX51_open.data.toList.drop 0 = dktX51_open_0 := by decide +kernel
theorem dksX51_open_1 : cX51_open.data.toList.drop 23 = dktX51_open_1 := dk_seg dksX51_open_0 23 rfl rfl
theorem dksX51_open_2 : cX51_open.data.toList.drop 45 = dktX51_open_2 := dk_seg dksX51_open_1 22 rfl rfl
theorem dX51_open_0 : decode cX51_open 0 = .ok (.aload_n 0, 1) := dk_42 (dk_at dksX51_open_0 0 rfl rfl)
theorem dX51_open_1 : decode cX51_open 1 = .ok (.iconst 0, 1) := dk_3 (dk_at dksX51_open_0 1 rfl rfl)
theorem dX51_open_2 : decode cX51_open 2 = .ok (.putfield 68, 3) := dk_181 0 68 (dk_at dksX51_open_0 2 rfl rfl)
theorem dX51_open_5 : decode cX51_open 5 = .ok (.aload_n 0, 1) := dk_42 (dk_at dksX51_open_0 5 rfl rfl)
theorem dX51_open_6 : decode cX51_open 6 = .ok (.iload_n 1, 1) := dk_27 (dk_at dksX51_open_0 6 rfl rfl)
theorem dX51_open_7 : decode cX51_open 7 = .ok (.invokevirtual 247, 3) := dk_182 0 247 (dk_at dksX51_open_0 7 rfl rfl)
theorem dX51_open_10 : decode cX51_open 10 = .ok (.istore_n 3, 1) := dk_62 (dk_at dksX51_open_0 10 rfl rfl)
theorem dX51_open_11 : decode cX51_open 11 = .ok (.iload_n 3, 1) := dk_29 (dk_at dksX51_open_0 11 rfl rfl)
theorem dX51_open_12 : decode cX51_open 12 = .ok (.iconst (-1), 1) := dk_2 (dk_at dksX51_open_0 12 rfl rfl)
theorem dX51_open_13 : decode cX51_open 13 = .ok (.if_icmp .ne 5, 3) := dk_160 0 5 (dk_at dksX51_open_0 13 rfl rfl)
theorem dX51_open_16 : decode cX51_open 16 = .ok (.iconst (-1), 1) := dk_2 (dk_at dksX51_open_0 16 rfl rfl)
theorem dX51_open_17 : decode cX51_open 17 = .ok (.ireturn, 1) := dk_172 (dk_at dksX51_open_0 17 rfl rfl)
theorem dX51_open_18 : decode cX51_open 18 = .ok (.iload_n 2, 1) := dk_28 (dk_at dksX51_open_0 18 rfl rfl)
theorem dX51_open_19 : decode cX51_open 19 = .ok (.ifCond .ne 7, 3) := dk_154 0 7 (dk_at dksX51_open_0 19 rfl rfl)
theorem dX51_open_22 : decode cX51_open 22 = .ok (.iload_n 3, 1) := dk_29 (dk_at dksX51_open_0 22 rfl rfl)
theorem dX51_open_23 : decode cX51_open 23 = .ok (.goto 31, 3) := dk_167 0 31 (dk_at dksX51_open_1 0 rfl rfl)
theorem dX51_open_26 : decode cX51_open 26 = .ok (.iload_n 2, 1) := dk_28 (dk_at dksX51_open_1 3 rfl rfl)
theorem dX51_open_27 : decode cX51_open 27 = .ok (.iconst 1, 1) := dk_4 (dk_at dksX51_open_1 4 rfl rfl)
theorem dX51_open_28 : decode cX51_open 28 = .ok (.if_icmp .ne 11, 3) := dk_160 0 11 (dk_at dksX51_open_1 5 rfl rfl)
theorem dX51_open_31 : decode cX51_open 31 = .ok (.aload_n 0, 1) := dk_42 (dk_at dksX51_open_1 8 rfl rfl)
theorem dX51_open_32 : decode cX51_open 32 = .ok (.iload_n 3, 1) := dk_29 (dk_at dksX51_open_1 9 rfl rfl)
theorem dX51_open_33 : decode cX51_open 33 = .ok (.invokevirtual 198, 3) := dk_182 0 198 (dk_at dksX51_open_1 10 rfl rfl)
theorem dX51_open_36 : decode cX51_open 36 = .ok (.goto 18, 3) := dk_167 0 18 (dk_at dksX51_open_1 13 rfl rfl)
theorem dX51_open_39 : decode cX51_open 39 = .ok (.iload_n 2, 1) := dk_28 (dk_at dksX51_open_1 16 rfl rfl)
theorem dX51_open_40 : decode cX51_open 40 = .ok (.iconst 2, 1) := dk_5 (dk_at dksX51_open_1 17 rfl rfl)
theorem dX51_open_41 : decode cX51_open 41 = .ok (.if_icmp .ne 12, 3) := dk_160 0 12 (dk_at dksX51_open_1 18 rfl rfl)
theorem dX51_open_44 : decode cX51_open 44 = .ok (.aload_n 0, 1) := dk_42 (dk_at dksX51_open_1 21 rfl rfl)
theorem dX51_open_45 : decode cX51_open 45 = .ok (.getfield 62, 3) := dk_180 0 62 (dk_at dksX51_open_2 0 rfl rfl)
theorem dX51_open_48 : decode cX51_open 48 = .ok (.iload_n 3, 1) := dk_29 (dk_at dksX51_open_2 3 rfl rfl)
theorem dX51_open_49 : decode cX51_open 49 = .ok (.iaload, 1) := dk_46 (dk_at dksX51_open_2 4 rfl rfl)
theorem dX51_open_50 : decode cX51_open 50 = .ok (.goto 4, 3) := dk_167 0 4 (dk_at dksX51_open_2 5 rfl rfl)
theorem dX51_open_53 : decode cX51_open 53 = .ok (.iconst (-1), 1) := dk_2 (dk_at dksX51_open_2 8 rfl rfl)
theorem dX51_open_54 : decode cX51_open 54 = .ok (.ireturn, 1) := dk_172 (dk_at dksX51_open_2 9 rfl rfl)
abbrev cX51_openRule : ByteArray := prog_60_method_43_code
def yX51_openRule : MethodName := ⟨RX51, "openRule", "(I)I"⟩
def dkwX51_openRule_1 : List UInt8 := [160, 0, 5, 29, 172, 132, 2, 1, 132, 3, 1, 167, 255, 227, 2, 172]
abbrev dktX51_openRule_1 : List UInt8 := dkwX51_openRule_1 ++ []
def dkwX51_openRule_0 : List UInt8 := [3, 61, 3, 62, 29, 42, 180, 0, 162, 162, 0, 27, 42, 29, 182, 0, 244, 153, 0, 13, 28, 27]
abbrev dktX51_openRule_0 : List UInt8 := dkwX51_openRule_0 ++ dktX51_openRule_1
theorem dksX51_openRule_0 : cX51_openRule.data.toList.drop 0 = dktX51_openRule_0 := by decide +kernel
theorem dksX51_openRule_1 : cX51_openRule.data.toList.drop 22 = dktX51_openRule_1 := dk_seg dksX51_openRule_0 22 rfl rfl
theorem dX51_openRule_0 : decode cX51_openRule 0 = .ok (.iconst 0, 1) := dk_3 (dk_at dksX51_openRule_0 0 rfl rfl)
theorem dX51_openRule_1 : decode cX51_openRule 1 = .ok (.istore_n 2, 1) := dk_61 (dk_at dksX51_openRule_0 1 rfl rfl)
theorem dX51_openRule_2 : decode cX51_openRule 2 = .ok (.iconst 0, 1) := dk_3 (dk_at dksX51_openRule_0 2 rfl rfl)
theorem dX51_openRule_3 : decode cX51_openRule 3 = .ok (.istore_n 3, 1) := dk_62 (dk_at dksX51_openRule_0 3 rfl rfl)
theorem dX51_openRule_4 : decode cX51_openRule 4 = .ok (.iload_n 3, 1) := dk_29 (dk_at dksX51_openRule_0 4 rfl rfl)
theorem dX51_openRule_5 : decode cX51_openRule 5 = .ok (.aload_n 0, 1) := dk_42 (dk_at dksX51_openRule_0 5 rfl rfl)
theorem dX51_openRule_6 : decode cX51_openRule 6 = .ok (.getfield 162, 3) := dk_180 0 162 (dk_at dksX51_openRule_0 6 rfl rfl)
theorem dX51_openRule_9 : decode cX51_openRule 9 = .ok (.if_icmp .ge 27, 3) := dk_162 0 27 (dk_at dksX51_openRule_0 9 rfl rfl)
theorem dX51_openRule_12 : decode cX51_openRule 12 = .ok (.aload_n 0, 1) := dk_42 (dk_at dksX51_openRule_0 12 rfl rfl)
theorem dX51_openRule_13 : decode cX51_openRule 13 = .ok (.iload_n 3, 1) := dk_29 (dk_at dksX51_openRule_0 13 rfl rfl)
theorem dX51_openRule_14 : decode cX51_openRule 14 = .ok (.invokevirtual 244, 3) := dk_182 0 244 (dk_at dksX51_openRule_0 14 rfl rfl)
theorem dX51_openRule_17 : decode cX51_openRule 17 = .ok (.ifCond .eq 13, 3) := dk_153 0 13 (dk_at dksX51_openRule_0 17 rfl rfl)
theorem dX51_openRule_20 : decode cX51_openRule 20 = .ok (.iload_n 2, 1) := dk_28 (dk_at dksX51_openRule_0 20 rfl rfl)
theorem dX51_openRule_21 : decode cX51_openRule 21 = .ok (.iload_n 1, 1) := dk_27 (dk_at dksX51_openRule_0 21 rfl rfl)
theorem dX51_openRule_22 : decode cX51_openRule 22 = .ok (.if_icmp .ne 5, 3) := dk_160 0 5 (dk_at dksX51_openRule_1 0 rfl rfl)
theorem dX51_openRule_25 : decode cX51_openRule 25 = .ok (.iload_n 3, 1) := dk_29 (dk_at dksX51_openRule_1 3 rfl rfl)
theorem dX51_openRule_26 : decode cX51_openRule 26 = .ok (.ireturn, 1) := dk_172 (dk_at dksX51_openRule_1 4 rfl rfl)
theorem dX51_openRule_27 : decode cX51_openRule 27 = .ok (.iinc 2 1, 3) := dk_132 2 1 (dk_at dksX51_openRule_1 5 rfl rfl)
theorem dX51_openRule_30 : decode cX51_openRule 30 = .ok (.iinc 3 1, 3) := dk_132 3 1 (dk_at dksX51_openRule_1 8 rfl rfl)
theorem dX51_openRule_33 : decode cX51_openRule 33 = .ok (.goto (-29), 3) := dk_167 255 227 (dk_at dksX51_openRule_1 11 rfl rfl)
theorem dX51_openRule_36 : decode cX51_openRule 36 = .ok (.iconst (-1), 1) := dk_2 (dk_at dksX51_openRule_1 14 rfl rfl)
theorem dX51_openRule_37 : decode cX51_openRule 37 = .ok (.ireturn, 1) := dk_172 (dk_at dksX51_openRule_1 15 rfl rfl)
abbrev cX51_isOpen : ByteArray := prog_60_method_42_code
def yX51_isOpen : MethodName := ⟨RX51, "isOpen", "(I)Z"⟩
def dkwX51_isOpen_1 : List UInt8 := [167, 0, 4, 3, 172]
abbrev dktX51_isOpen_1 : List UInt8 := dkwX51_isOpen_1 ++ []
def dkwX51_isOpen_0 : List UInt8 := [42, 180, 0, 59, 27, 46, 5, 160, 0, 19, 42, 42, 27, 182, 0, 198, 182, 0, 224, 154, 0, 7, 4]
abbrev dktX51_isOpen_0 : List UInt8 := dkwX51_isOpen_0 ++ dktX51_isOpen_1
theorem dksX51_isOpen_0 : cX51_isOpen.data.toList.drop 0 = dktX51_isOpen_0 := by decide +kernel
theorem dksX51_isOpen_1 : cX51_isOpen.data.toList.drop 23 = dktX51_isOpen_1 := dk_seg dksX51_isOpen_0 23 rfl rfl
theorem dX51_isOpen_0 : decode cX51_isOpen 0 = .ok (.aload_n 0, 1) := dk_42 (dk_at dksX51_isOpen_0 0 rfl rfl)
theorem dX51_isOpen_1 : decode cX51_isOpen 1 = .ok (.getfield 59, 3) := dk_180 0 59 (dk_at dksX51_isOpen_0 1 rfl rfl)
theorem dX51_isOpen_4 : decode cX51_isOpen 4 = .ok (.iload_n 1, 1) := dk_27 (dk_at dksX51_isOpen_0 4 rfl rfl)
theorem dX51_isOpen_5 : decode cX51_isOpen 5 = .ok (.iaload, 1) := dk_46 (dk_at dksX51_isOpen_0 5 rfl rfl)
theorem dX51_isOpen_6 : decode cX51_isOpen 6 = .ok (.iconst 2, 1) := dk_5 (dk_at dksX51_isOpen_0 6 rfl rfl)
theorem dX51_isOpen_7 : decode cX51_isOpen 7 = .ok (.if_icmp .ne 19, 3) := dk_160 0 19 (dk_at dksX51_isOpen_0 7 rfl rfl)
theorem dX51_isOpen_10 : decode cX51_isOpen 10 = .ok (.aload_n 0, 1) := dk_42 (dk_at dksX51_isOpen_0 10 rfl rfl)
theorem dX51_isOpen_11 : decode cX51_isOpen 11 = .ok (.aload_n 0, 1) := dk_42 (dk_at dksX51_isOpen_0 11 rfl rfl)
theorem dX51_isOpen_12 : decode cX51_isOpen 12 = .ok (.iload_n 1, 1) := dk_27 (dk_at dksX51_isOpen_0 12 rfl rfl)
theorem dX51_isOpen_13 : decode cX51_isOpen 13 = .ok (.invokevirtual 198, 3) := dk_182 0 198 (dk_at dksX51_isOpen_0 13 rfl rfl)
theorem dX51_isOpen_16 : decode cX51_isOpen 16 = .ok (.invokevirtual 224, 3) := dk_182 0 224 (dk_at dksX51_isOpen_0 16 rfl rfl)
theorem dX51_isOpen_19 : decode cX51_isOpen 19 = .ok (.ifCond .ne 7, 3) := dk_154 0 7 (dk_at dksX51_isOpen_0 19 rfl rfl)
theorem dX51_isOpen_22 : decode cX51_isOpen 22 = .ok (.iconst 1, 1) := dk_4 (dk_at dksX51_isOpen_0 22 rfl rfl)
theorem dX51_isOpen_23 : decode cX51_isOpen 23 = .ok (.goto 4, 3) := dk_167 0 4 (dk_at dksX51_isOpen_1 0 rfl rfl)
theorem dX51_isOpen_26 : decode cX51_isOpen 26 = .ok (.iconst 0, 1) := dk_3 (dk_at dksX51_isOpen_1 3 rfl rfl)
theorem dX51_isOpen_27 : decode cX51_isOpen 27 = .ok (.ireturn, 1) := dk_172 (dk_at dksX51_isOpen_1 4 rfl rfl)
abbrev cX51_moving : ByteArray := prog_60_method_41_code
def yX51_moving : MethodName := ⟨RX51, "moving", "()I"⟩
def dkwX51_moving_0 : List UInt8 := [42, 3, 182, 0, 241, 172]
abbrev dktX51_moving_0 : List UInt8 := dkwX51_moving_0 ++ []
theorem dksX51_moving_0 : cX51_moving.data.toList.drop 0 = dktX51_moving_0 := by decide +kernel
theorem dX51_moving_0 : decode cX51_moving 0 = .ok (.aload_n 0, 1) := dk_42 (dk_at dksX51_moving_0 0 rfl rfl)
theorem dX51_moving_1 : decode cX51_moving 1 = .ok (.iconst 0, 1) := dk_3 (dk_at dksX51_moving_0 1 rfl rfl)
theorem dX51_moving_2 : decode cX51_moving 2 = .ok (.invokevirtual 241, 3) := dk_182 0 241 (dk_at dksX51_moving_0 2 rfl rfl)
theorem dX51_moving_5 : decode cX51_moving 5 = .ok (.ireturn, 1) := dk_172 (dk_at dksX51_moving_0 5 rfl rfl)
abbrev cX51_cls : ByteArray := prog_60_method_39_code
def yX51_cls : MethodName := ⟨RX51, "cls", "(I)I"⟩
def dkwX51_cls_1 : List UInt8 := [27, 160, 0, 5, 29, 172, 132, 2, 1, 132, 3, 1, 167, 255, 229, 2, 172]
abbrev dktX51_cls_1 : List UInt8 := dkwX51_cls_1 ++ []
def dkwX51_cls_0 : List UInt8 := [42, 3, 181, 0, 68, 3, 61, 3, 62, 29, 16, 19, 163, 0, 27, 42, 29, 182, 0, 224, 153, 0, 13, 28]
abbrev dktX51_cls_0 : List UInt8 := dkwX51_cls_0 ++ dktX51_cls_1
theorem dksX51_cls_0 : cX51_cls.data.toList.drop 0 = dktX51_cls_0 := by decide +kernel
theorem dksX51_cls_1 : cX51_cls.data.toList.drop 24 = dktX51_cls_1 := dk_seg dksX51_cls_0 24 rfl rfl
theorem dX51_cls_0 : decode cX51_cls 0 = .ok (.aload_n 0, 1) := dk_42 (dk_at dksX51_cls_0 0 rfl rfl)
theorem dX51_cls_1 : decode cX51_cls 1 = .ok (.iconst 0, 1) := dk_3 (dk_at dksX51_cls_0 1 rfl rfl)
theorem dX51_cls_2 : decode cX51_cls 2 = .ok (.putfield 68, 3) := dk_181 0 68 (dk_at dksX51_cls_0 2 rfl rfl)
theorem dX51_cls_5 : decode cX51_cls 5 = .ok (.iconst 0, 1) := dk_3 (dk_at dksX51_cls_0 5 rfl rfl)
theorem dX51_cls_6 : decode cX51_cls 6 = .ok (.istore_n 2, 1) := dk_61 (dk_at dksX51_cls_0 6 rfl rfl)
theorem dX51_cls_7 : decode cX51_cls 7 = .ok (.iconst 0, 1) := dk_3 (dk_at dksX51_cls_0 7 rfl rfl)
theorem dX51_cls_8 : decode cX51_cls 8 = .ok (.istore_n 3, 1) := dk_62 (dk_at dksX51_cls_0 8 rfl rfl)
theorem dX51_cls_9 : decode cX51_cls 9 = .ok (.iload_n 3, 1) := dk_29 (dk_at dksX51_cls_0 9 rfl rfl)
theorem dX51_cls_10 : decode cX51_cls 10 = .ok (.bipush 19, 2) := dk_16 19 (dk_at dksX51_cls_0 10 rfl rfl)
theorem dX51_cls_12 : decode cX51_cls 12 = .ok (.if_icmp .gt 27, 3) := dk_163 0 27 (dk_at dksX51_cls_0 12 rfl rfl)
theorem dX51_cls_15 : decode cX51_cls 15 = .ok (.aload_n 0, 1) := dk_42 (dk_at dksX51_cls_0 15 rfl rfl)
theorem dX51_cls_16 : decode cX51_cls 16 = .ok (.iload_n 3, 1) := dk_29 (dk_at dksX51_cls_0 16 rfl rfl)
theorem dX51_cls_17 : decode cX51_cls 17 = .ok (.invokevirtual 224, 3) := dk_182 0 224 (dk_at dksX51_cls_0 17 rfl rfl)
theorem dX51_cls_20 : decode cX51_cls 20 = .ok (.ifCond .eq 13, 3) := dk_153 0 13 (dk_at dksX51_cls_0 20 rfl rfl)
theorem dX51_cls_23 : decode cX51_cls 23 = .ok (.iload_n 2, 1) := dk_28 (dk_at dksX51_cls_0 23 rfl rfl)
theorem dX51_cls_24 : decode cX51_cls 24 = .ok (.iload_n 1, 1) := dk_27 (dk_at dksX51_cls_1 0 rfl rfl)
theorem dX51_cls_25 : decode cX51_cls 25 = .ok (.if_icmp .ne 5, 3) := dk_160 0 5 (dk_at dksX51_cls_1 1 rfl rfl)
theorem dX51_cls_28 : decode cX51_cls 28 = .ok (.iload_n 3, 1) := dk_29 (dk_at dksX51_cls_1 4 rfl rfl)
theorem dX51_cls_29 : decode cX51_cls 29 = .ok (.ireturn, 1) := dk_172 (dk_at dksX51_cls_1 5 rfl rfl)
theorem dX51_cls_30 : decode cX51_cls 30 = .ok (.iinc 2 1, 3) := dk_132 2 1 (dk_at dksX51_cls_1 6 rfl rfl)
theorem dX51_cls_33 : decode cX51_cls 33 = .ok (.iinc 3 1, 3) := dk_132 3 1 (dk_at dksX51_cls_1 9 rfl rfl)
theorem dX51_cls_36 : decode cX51_cls 36 = .ok (.goto (-27), 3) := dk_167 255 229 (dk_at dksX51_cls_1 12 rfl rfl)
theorem dX51_cls_39 : decode cX51_cls 39 = .ok (.iconst (-1), 1) := dk_2 (dk_at dksX51_cls_1 15 rfl rfl)
theorem dX51_cls_40 : decode cX51_cls 40 = .ok (.ireturn, 1) := dk_172 (dk_at dksX51_cls_1 16 rfl rfl)
abbrev cX51_unit : ByteArray := prog_60_method_3_code
def yX51_unit : MethodName := ⟨RX51, "unit", "(I)Z"⟩
def dkwX51_unit_2 : List UInt8 := [181, 0, 71, 4, 172]
abbrev dktX51_unit_2 : List UInt8 := dkwX51_unit_2 ++ []
def dkwX51_unit_1 : List UInt8 := [160, 0, 5, 3, 172, 42, 180, 0, 7, 42, 180, 0, 71, 27, 145, 84, 42, 89, 180, 0, 71, 4, 96]
abbrev dktX51_unit_1 : List UInt8 := dkwX51_unit_1 ++ dktX51_unit_2
def dkwX51_unit_0 : List UInt8 := [42, 3, 181, 0, 68, 27, 155, 0, 20, 27, 17, 0, 255, 163, 0, 13, 42, 180, 0, 71, 17, 11, 184]
abbrev dktX51_unit_0 : List UInt8 := dkwX51_unit_0 ++ dktX51_unit_1
theorem dksX51_unit_0 : cX51_unit.data.toList.drop 0 = dktX51_unit_0 := by decide +kernel
theorem dksX51_unit_1 : cX51_unit.data.toList.drop 23 = dktX51_unit_1 := dk_seg dksX51_unit_0 23 rfl rfl
theorem dksX51_unit_2 : cX51_unit.data.toList.drop 46 = dktX51_unit_2 := dk_seg dksX51_unit_1 23 rfl rfl
theorem dX51_unit_0 : decode cX51_unit 0 = .ok (.aload_n 0, 1) := dk_42 (dk_at dksX51_unit_0 0 rfl rfl)
theorem dX51_unit_1 : decode cX51_unit 1 = .ok (.iconst 0, 1) := dk_3 (dk_at dksX51_unit_0 1 rfl rfl)
theorem dX51_unit_2 : decode cX51_unit 2 = .ok (.putfield 68, 3) := dk_181 0 68 (dk_at dksX51_unit_0 2 rfl rfl)
theorem dX51_unit_5 : decode cX51_unit 5 = .ok (.iload_n 1, 1) := dk_27 (dk_at dksX51_unit_0 5 rfl rfl)
theorem dX51_unit_6 : decode cX51_unit 6 = .ok (.ifCond .lt 20, 3) := dk_155 0 20 (dk_at dksX51_unit_0 6 rfl rfl)
theorem dX51_unit_9 : decode cX51_unit 9 = .ok (.iload_n 1, 1) := dk_27 (dk_at dksX51_unit_0 9 rfl rfl)
theorem dX51_unit_10 : decode cX51_unit 10 = .ok (.sipush 255, 3) := dk_17 0 255 (dk_at dksX51_unit_0 10 rfl rfl)
theorem dX51_unit_13 : decode cX51_unit 13 = .ok (.if_icmp .gt 13, 3) := dk_163 0 13 (dk_at dksX51_unit_0 13 rfl rfl)
theorem dX51_unit_16 : decode cX51_unit 16 = .ok (.aload_n 0, 1) := dk_42 (dk_at dksX51_unit_0 16 rfl rfl)
theorem dX51_unit_17 : decode cX51_unit 17 = .ok (.getfield 71, 3) := dk_180 0 71 (dk_at dksX51_unit_0 17 rfl rfl)
theorem dX51_unit_20 : decode cX51_unit 20 = .ok (.sipush 3000, 3) := dk_17 11 184 (dk_at dksX51_unit_0 20 rfl rfl)
theorem dX51_unit_23 : decode cX51_unit 23 = .ok (.if_icmp .ne 5, 3) := dk_160 0 5 (dk_at dksX51_unit_1 0 rfl rfl)
theorem dX51_unit_26 : decode cX51_unit 26 = .ok (.iconst 0, 1) := dk_3 (dk_at dksX51_unit_1 3 rfl rfl)
theorem dX51_unit_27 : decode cX51_unit 27 = .ok (.ireturn, 1) := dk_172 (dk_at dksX51_unit_1 4 rfl rfl)
theorem dX51_unit_28 : decode cX51_unit 28 = .ok (.aload_n 0, 1) := dk_42 (dk_at dksX51_unit_1 5 rfl rfl)
theorem dX51_unit_29 : decode cX51_unit 29 = .ok (.getfield 7, 3) := dk_180 0 7 (dk_at dksX51_unit_1 6 rfl rfl)
theorem dX51_unit_32 : decode cX51_unit 32 = .ok (.aload_n 0, 1) := dk_42 (dk_at dksX51_unit_1 9 rfl rfl)
theorem dX51_unit_33 : decode cX51_unit 33 = .ok (.getfield 71, 3) := dk_180 0 71 (dk_at dksX51_unit_1 10 rfl rfl)
theorem dX51_unit_36 : decode cX51_unit 36 = .ok (.iload_n 1, 1) := dk_27 (dk_at dksX51_unit_1 13 rfl rfl)
theorem dX51_unit_37 : decode cX51_unit 37 = .ok (.i2b, 1) := dk_145 (dk_at dksX51_unit_1 14 rfl rfl)
theorem dX51_unit_38 : decode cX51_unit 38 = .ok (.bastore, 1) := dk_84 (dk_at dksX51_unit_1 15 rfl rfl)
theorem dX51_unit_39 : decode cX51_unit 39 = .ok (.aload_n 0, 1) := dk_42 (dk_at dksX51_unit_1 16 rfl rfl)
theorem dX51_unit_40 : decode cX51_unit 40 = .ok (.dup, 1) := dk_89 (dk_at dksX51_unit_1 17 rfl rfl)
theorem dX51_unit_41 : decode cX51_unit 41 = .ok (.getfield 71, 3) := dk_180 0 71 (dk_at dksX51_unit_1 18 rfl rfl)
theorem dX51_unit_44 : decode cX51_unit 44 = .ok (.iconst 1, 1) := dk_4 (dk_at dksX51_unit_1 21 rfl rfl)
theorem dX51_unit_45 : decode cX51_unit 45 = .ok (.iadd, 1) := dk_96 (dk_at dksX51_unit_1 22 rfl rfl)
theorem dX51_unit_46 : decode cX51_unit 46 = .ok (.putfield 71, 3) := dk_181 0 71 (dk_at dksX51_unit_2 0 rfl rfl)
theorem dX51_unit_49 : decode cX51_unit 49 = .ok (.iconst 1, 1) := dk_4 (dk_at dksX51_unit_2 3 rfl rfl)
theorem dX51_unit_50 : decode cX51_unit 50 = .ok (.ireturn, 1) := dk_172 (dk_at dksX51_unit_2 4 rfl rfl)
abbrev cX51_read : ByteArray := prog_60_method_16_code
def yX51_read : MethodName := ⟨RX51, "read", "()I"⟩
def dkwX51_read_10 : List UInt8 := [132, 4, 1, 167, 255, 157, 42, 182, 0, 176, 42, 180, 0, 162, 172]
abbrev dktX51_read_10 : List UInt8 := dkwX51_read_10 ++ []
def dkwX51_read_9 : List UInt8 := [180, 0, 32, 42, 180, 0, 162, 42, 180, 0, 165, 4, 100, 79, 42, 89, 180, 0, 162, 4, 96, 181, 0, 162]
abbrev dktX51_read_9 : List UInt8 := dkwX51_read_9 ++ dktX51_read_10
def dkwX51_read_8 : List UInt8 := [21, 4, 20, 0, 137, 182, 0, 168, 153, 0, 39, 42, 180, 0, 29, 42, 180, 0, 162, 21, 4, 79, 42]
abbrev dktX51_read_8 : List UInt8 := dkwX51_read_8 ++ dktX51_read_9
def dkwX51_read_7 : List UInt8 := [180, 0, 165, 42, 21, 4, 4, 96, 182, 0, 172, 79, 42, 89, 180, 0, 165, 4, 96, 181, 0, 165, 42]
abbrev dktX51_read_7 : List UInt8 := dkwX51_read_7 ++ dktX51_read_8
def dkwX51_read_6 : List UInt8 := [180, 0, 159, 162, 0, 96, 42, 21, 4, 20, 0, 148, 182, 0, 168, 153, 0, 30, 42, 180, 0, 35, 42]
abbrev dktX51_read_6 : List UInt8 := dkwX51_read_6 ++ dktX51_read_7
def dkwX51_read_5 : List UInt8 := [21, 4, 42, 180, 0, 26, 21, 4, 46, 79, 132, 4, 1, 167, 255, 216, 3, 54, 4, 21, 4, 42]
abbrev dktX51_read_5 : List UInt8 := dkwX51_read_5 ++ dktX51_read_6
def dkwX51_read_4 : List UInt8 := [180, 0, 159, 162, 0, 37, 42, 180, 0, 16, 21, 4, 42, 180, 0, 23, 21, 4, 46, 79, 42, 180, 0, 20]
abbrev dktX51_read_4 : List UInt8 := dkwX51_read_4 ++ dktX51_read_5
def dkwX51_read_3 : List UInt8 := [42, 180, 0, 74, 181, 0, 159, 42, 3, 181, 0, 162, 42, 3, 181, 0, 165, 3, 54, 4, 21, 4, 42]
abbrev dktX51_read_3 : List UInt8 := dkwX51_read_3 ++ dktX51_read_4
def dkwX51_read_2 : List UInt8 := [162, 0, 23, 42, 180, 0, 13, 21, 4, 42, 180, 0, 7, 21, 4, 51, 84, 132, 4, 1, 167, 255, 233, 42]
abbrev dktX51_read_2 : List UInt8 := dkwX51_read_2 ++ dktX51_read_3
def dkwX51_read_1 : List UInt8 := [42, 180, 0, 71, 62, 42, 3, 181, 0, 71, 27, 154, 0, 7, 2, 28, 100, 172, 3, 54, 4, 21, 4, 29]
abbrev dktX51_read_1 : List UInt8 := dkwX51_read_1 ++ dktX51_read_2
def dkwX51_read_0 : List UInt8 := [42, 3, 181, 0, 68, 42, 182, 0, 153, 42, 3, 181, 0, 83, 42, 182, 0, 156, 60, 42, 180, 0, 83, 61]
abbrev dktX51_read_0 : List UInt8 := dkwX51_read_0 ++ dktX51_read_1
theorem dksX51_read_0 : cX51_read.data.toList.drop 0 = dktX51_read_0 := by decide +kernel
theorem dksX51_read_1 : cX51_read.data.toList.drop 24 = dktX51_read_1 := dk_seg dksX51_read_0 24 rfl rfl
theorem dksX51_read_2 : cX51_read.data.toList.drop 48 = dktX51_read_2 := dk_seg dksX51_read_1 24 rfl rfl
theorem dksX51_read_3 : cX51_read.data.toList.drop 72 = dktX51_read_3 := dk_seg dksX51_read_2 24 rfl rfl
theorem dksX51_read_4 : cX51_read.data.toList.drop 95 = dktX51_read_4 := dk_seg dksX51_read_3 23 rfl rfl
theorem dksX51_read_5 : cX51_read.data.toList.drop 119 = dktX51_read_5 := dk_seg dksX51_read_4 24 rfl rfl
theorem dksX51_read_6 : cX51_read.data.toList.drop 141 = dktX51_read_6 := dk_seg dksX51_read_5 22 rfl rfl
theorem dksX51_read_7 : cX51_read.data.toList.drop 164 = dktX51_read_7 := dk_seg dksX51_read_6 23 rfl rfl
theorem dksX51_read_8 : cX51_read.data.toList.drop 187 = dktX51_read_8 := dk_seg dksX51_read_7 23 rfl rfl
theorem dksX51_read_9 : cX51_read.data.toList.drop 210 = dktX51_read_9 := dk_seg dksX51_read_8 23 rfl rfl
theorem dksX51_read_10 : cX51_read.data.toList.drop 234 = dktX51_read_10 := dk_seg dksX51_read_9 24 rfl rfl
theorem dX51_read_0 : decode cX51_read 0 = .ok (.aload_n 0, 1) := dk_42 (dk_at dksX51_read_0 0 rfl rfl)
theorem dX51_read_1 : decode cX51_read 1 = .ok (.iconst 0, 1) := dk_3 (dk_at dksX51_read_0 1 rfl rfl)
theorem dX51_read_2 : decode cX51_read 2 = .ok (.putfield 68, 3) := dk_181 0 68 (dk_at dksX51_read_0 2 rfl rfl)
theorem dX51_read_5 : decode cX51_read 5 = .ok (.aload_n 0, 1) := dk_42 (dk_at dksX51_read_0 5 rfl rfl)
theorem dX51_read_6 : decode cX51_read 6 = .ok (.invokevirtual 153, 3) := dk_182 0 153 (dk_at dksX51_read_0 6 rfl rfl)
theorem dX51_read_9 : decode cX51_read 9 = .ok (.aload_n 0, 1) := dk_42 (dk_at dksX51_read_0 9 rfl rfl)
theorem dX51_read_10 : decode cX51_read 10 = .ok (.iconst 0, 1) := dk_3 (dk_at dksX51_read_0 10 rfl rfl)
theorem dX51_read_11 : decode cX51_read 11 = .ok (.putfield 83, 3) := dk_181 0 83 (dk_at dksX51_read_0 11 rfl rfl)
theorem dX51_read_14 : decode cX51_read 14 = .ok (.aload_n 0, 1) := dk_42 (dk_at dksX51_read_0 14 rfl rfl)
theorem dX51_read_15 : decode cX51_read 15 = .ok (.invokevirtual 156, 3) := dk_182 0 156 (dk_at dksX51_read_0 15 rfl rfl)
theorem dX51_read_18 : decode cX51_read 18 = .ok (.istore_n 1, 1) := dk_60 (dk_at dksX51_read_0 18 rfl rfl)
theorem dX51_read_19 : decode cX51_read 19 = .ok (.aload_n 0, 1) := dk_42 (dk_at dksX51_read_0 19 rfl rfl)
theorem dX51_read_20 : decode cX51_read 20 = .ok (.getfield 83, 3) := dk_180 0 83 (dk_at dksX51_read_0 20 rfl rfl)
theorem dX51_read_23 : decode cX51_read 23 = .ok (.istore_n 2, 1) := dk_61 (dk_at dksX51_read_0 23 rfl rfl)
theorem dX51_read_24 : decode cX51_read 24 = .ok (.aload_n 0, 1) := dk_42 (dk_at dksX51_read_1 0 rfl rfl)
theorem dX51_read_25 : decode cX51_read 25 = .ok (.getfield 71, 3) := dk_180 0 71 (dk_at dksX51_read_1 1 rfl rfl)
theorem dX51_read_28 : decode cX51_read 28 = .ok (.istore_n 3, 1) := dk_62 (dk_at dksX51_read_1 4 rfl rfl)
theorem dX51_read_29 : decode cX51_read 29 = .ok (.aload_n 0, 1) := dk_42 (dk_at dksX51_read_1 5 rfl rfl)
theorem dX51_read_30 : decode cX51_read 30 = .ok (.iconst 0, 1) := dk_3 (dk_at dksX51_read_1 6 rfl rfl)
theorem dX51_read_31 : decode cX51_read 31 = .ok (.putfield 71, 3) := dk_181 0 71 (dk_at dksX51_read_1 7 rfl rfl)
theorem dX51_read_34 : decode cX51_read 34 = .ok (.iload_n 1, 1) := dk_27 (dk_at dksX51_read_1 10 rfl rfl)
theorem dX51_read_35 : decode cX51_read 35 = .ok (.ifCond .ne 7, 3) := dk_154 0 7 (dk_at dksX51_read_1 11 rfl rfl)
theorem dX51_read_38 : decode cX51_read 38 = .ok (.iconst (-1), 1) := dk_2 (dk_at dksX51_read_1 14 rfl rfl)
theorem dX51_read_39 : decode cX51_read 39 = .ok (.iload_n 2, 1) := dk_28 (dk_at dksX51_read_1 15 rfl rfl)
theorem dX51_read_40 : decode cX51_read 40 = .ok (.isub, 1) := dk_100 (dk_at dksX51_read_1 16 rfl rfl)
theorem dX51_read_41 : decode cX51_read 41 = .ok (.ireturn, 1) := dk_172 (dk_at dksX51_read_1 17 rfl rfl)
theorem dX51_read_42 : decode cX51_read 42 = .ok (.iconst 0, 1) := dk_3 (dk_at dksX51_read_1 18 rfl rfl)
theorem dX51_read_43 : decode cX51_read 43 = .ok (.istore 4, 2) := dk_54 4 (dk_at dksX51_read_1 19 rfl rfl)
theorem dX51_read_45 : decode cX51_read 45 = .ok (.iload 4, 2) := dk_21 4 (dk_at dksX51_read_1 21 rfl rfl)
theorem dX51_read_47 : decode cX51_read 47 = .ok (.iload_n 3, 1) := dk_29 (dk_at dksX51_read_1 23 rfl rfl)
theorem dX51_read_48 : decode cX51_read 48 = .ok (.if_icmp .ge 23, 3) := dk_162 0 23 (dk_at dksX51_read_2 0 rfl rfl)
theorem dX51_read_51 : decode cX51_read 51 = .ok (.aload_n 0, 1) := dk_42 (dk_at dksX51_read_2 3 rfl rfl)
theorem dX51_read_52 : decode cX51_read 52 = .ok (.getfield 13, 3) := dk_180 0 13 (dk_at dksX51_read_2 4 rfl rfl)
theorem dX51_read_55 : decode cX51_read 55 = .ok (.iload 4, 2) := dk_21 4 (dk_at dksX51_read_2 7 rfl rfl)
theorem dX51_read_57 : decode cX51_read 57 = .ok (.aload_n 0, 1) := dk_42 (dk_at dksX51_read_2 9 rfl rfl)
theorem dX51_read_58 : decode cX51_read 58 = .ok (.getfield 7, 3) := dk_180 0 7 (dk_at dksX51_read_2 10 rfl rfl)
theorem dX51_read_61 : decode cX51_read 61 = .ok (.iload 4, 2) := dk_21 4 (dk_at dksX51_read_2 13 rfl rfl)
theorem dX51_read_63 : decode cX51_read 63 = .ok (.baload, 1) := dk_51 (dk_at dksX51_read_2 15 rfl rfl)
theorem dX51_read_64 : decode cX51_read 64 = .ok (.bastore, 1) := dk_84 (dk_at dksX51_read_2 16 rfl rfl)
theorem dX51_read_65 : decode cX51_read 65 = .ok (.iinc 4 1, 3) := dk_132 4 1 (dk_at dksX51_read_2 17 rfl rfl)
theorem dX51_read_68 : decode cX51_read 68 = .ok (.goto (-23), 3) := dk_167 255 233 (dk_at dksX51_read_2 20 rfl rfl)
theorem dX51_read_71 : decode cX51_read 71 = .ok (.aload_n 0, 1) := dk_42 (dk_at dksX51_read_2 23 rfl rfl)
theorem dX51_read_72 : decode cX51_read 72 = .ok (.aload_n 0, 1) := dk_42 (dk_at dksX51_read_3 0 rfl rfl)
theorem dX51_read_73 : decode cX51_read 73 = .ok (.getfield 74, 3) := dk_180 0 74 (dk_at dksX51_read_3 1 rfl rfl)
theorem dX51_read_76 : decode cX51_read 76 = .ok (.putfield 159, 3) := dk_181 0 159 (dk_at dksX51_read_3 4 rfl rfl)
theorem dX51_read_79 : decode cX51_read 79 = .ok (.aload_n 0, 1) := dk_42 (dk_at dksX51_read_3 7 rfl rfl)
theorem dX51_read_80 : decode cX51_read 80 = .ok (.iconst 0, 1) := dk_3 (dk_at dksX51_read_3 8 rfl rfl)
theorem dX51_read_81 : decode cX51_read 81 = .ok (.putfield 162, 3) := dk_181 0 162 (dk_at dksX51_read_3 9 rfl rfl)
theorem dX51_read_84 : decode cX51_read 84 = .ok (.aload_n 0, 1) := dk_42 (dk_at dksX51_read_3 12 rfl rfl)
theorem dX51_read_85 : decode cX51_read 85 = .ok (.iconst 0, 1) := dk_3 (dk_at dksX51_read_3 13 rfl rfl)
theorem dX51_read_86 : decode cX51_read 86 = .ok (.putfield 165, 3) := dk_181 0 165 (dk_at dksX51_read_3 14 rfl rfl)
theorem dX51_read_89 : decode cX51_read 89 = .ok (.iconst 0, 1) := dk_3 (dk_at dksX51_read_3 17 rfl rfl)
theorem dX51_read_90 : decode cX51_read 90 = .ok (.istore 4, 2) := dk_54 4 (dk_at dksX51_read_3 18 rfl rfl)
theorem dX51_read_92 : decode cX51_read 92 = .ok (.iload 4, 2) := dk_21 4 (dk_at dksX51_read_3 20 rfl rfl)
theorem dX51_read_94 : decode cX51_read 94 = .ok (.aload_n 0, 1) := dk_42 (dk_at dksX51_read_3 22 rfl rfl)
theorem dX51_read_95 : decode cX51_read 95 = .ok (.getfield 159, 3) := dk_180 0 159 (dk_at dksX51_read_4 0 rfl rfl)
theorem dX51_read_98 : decode cX51_read 98 = .ok (.if_icmp .ge 37, 3) := dk_162 0 37 (dk_at dksX51_read_4 3 rfl rfl)
theorem dX51_read_101 : decode cX51_read 101 = .ok (.aload_n 0, 1) := dk_42 (dk_at dksX51_read_4 6 rfl rfl)
theorem dX51_read_102 : decode cX51_read 102 = .ok (.getfield 16, 3) := dk_180 0 16 (dk_at dksX51_read_4 7 rfl rfl)
theorem dX51_read_105 : decode cX51_read 105 = .ok (.iload 4, 2) := dk_21 4 (dk_at dksX51_read_4 10 rfl rfl)
theorem dX51_read_107 : decode cX51_read 107 = .ok (.aload_n 0, 1) := dk_42 (dk_at dksX51_read_4 12 rfl rfl)
theorem dX51_read_108 : decode cX51_read 108 = .ok (.getfield 23, 3) := dk_180 0 23 (dk_at dksX51_read_4 13 rfl rfl)
theorem dX51_read_111 : decode cX51_read 111 = .ok (.iload 4, 2) := dk_21 4 (dk_at dksX51_read_4 16 rfl rfl)
theorem dX51_read_113 : decode cX51_read 113 = .ok (.iaload, 1) := dk_46 (dk_at dksX51_read_4 18 rfl rfl)
theorem dX51_read_114 : decode cX51_read 114 = .ok (.iastore, 1) := dk_79 (dk_at dksX51_read_4 19 rfl rfl)
theorem dX51_read_115 : decode cX51_read 115 = .ok (.aload_n 0, 1) := dk_42 (dk_at dksX51_read_4 20 rfl rfl)
theorem dX51_read_116 : decode cX51_read 116 = .ok (.getfield 20, 3) := dk_180 0 20 (dk_at dksX51_read_4 21 rfl rfl)
theorem dX51_read_119 : decode cX51_read 119 = .ok (.iload 4, 2) := dk_21 4 (dk_at dksX51_read_5 0 rfl rfl)
theorem dX51_read_121 : decode cX51_read 121 = .ok (.aload_n 0, 1) := dk_42 (dk_at dksX51_read_5 2 rfl rfl)
theorem dX51_read_122 : decode cX51_read 122 = .ok (.getfield 26, 3) := dk_180 0 26 (dk_at dksX51_read_5 3 rfl rfl)
theorem dX51_read_125 : decode cX51_read 125 = .ok (.iload 4, 2) := dk_21 4 (dk_at dksX51_read_5 6 rfl rfl)
theorem dX51_read_127 : decode cX51_read 127 = .ok (.iaload, 1) := dk_46 (dk_at dksX51_read_5 8 rfl rfl)
theorem dX51_read_128 : decode cX51_read 128 = .ok (.iastore, 1) := dk_79 (dk_at dksX51_read_5 9 rfl rfl)
theorem dX51_read_129 : decode cX51_read 129 = .ok (.iinc 4 1, 3) := dk_132 4 1 (dk_at dksX51_read_5 10 rfl rfl)
theorem dX51_read_132 : decode cX51_read 132 = .ok (.goto (-40), 3) := dk_167 255 216 (dk_at dksX51_read_5 13 rfl rfl)
theorem dX51_read_135 : decode cX51_read 135 = .ok (.iconst 0, 1) := dk_3 (dk_at dksX51_read_5 16 rfl rfl)
theorem dX51_read_136 : decode cX51_read 136 = .ok (.istore 4, 2) := dk_54 4 (dk_at dksX51_read_5 17 rfl rfl)
theorem dX51_read_138 : decode cX51_read 138 = .ok (.iload 4, 2) := dk_21 4 (dk_at dksX51_read_5 19 rfl rfl)
theorem dX51_read_140 : decode cX51_read 140 = .ok (.aload_n 0, 1) := dk_42 (dk_at dksX51_read_5 21 rfl rfl)
theorem dX51_read_141 : decode cX51_read 141 = .ok (.getfield 159, 3) := dk_180 0 159 (dk_at dksX51_read_6 0 rfl rfl)
theorem dX51_read_144 : decode cX51_read 144 = .ok (.if_icmp .ge 96, 3) := dk_162 0 96 (dk_at dksX51_read_6 3 rfl rfl)
theorem dX51_read_147 : decode cX51_read 147 = .ok (.aload_n 0, 1) := dk_42 (dk_at dksX51_read_6 6 rfl rfl)
theorem dX51_read_148 : decode cX51_read 148 = .ok (.iload 4, 2) := dk_21 4 (dk_at dksX51_read_6 7 rfl rfl)
theorem dX51_read_150 : decode cX51_read 150 = .ok (.ldc2_w 148, 3) := dk_20 0 148 (dk_at dksX51_read_6 9 rfl rfl)
theorem dX51_read_153 : decode cX51_read 153 = .ok (.invokevirtual 168, 3) := dk_182 0 168 (dk_at dksX51_read_6 12 rfl rfl)
theorem dX51_read_156 : decode cX51_read 156 = .ok (.ifCond .eq 30, 3) := dk_153 0 30 (dk_at dksX51_read_6 15 rfl rfl)
theorem dX51_read_159 : decode cX51_read 159 = .ok (.aload_n 0, 1) := dk_42 (dk_at dksX51_read_6 18 rfl rfl)
theorem dX51_read_160 : decode cX51_read 160 = .ok (.getfield 35, 3) := dk_180 0 35 (dk_at dksX51_read_6 19 rfl rfl)
theorem dX51_read_163 : decode cX51_read 163 = .ok (.aload_n 0, 1) := dk_42 (dk_at dksX51_read_6 22 rfl rfl)
theorem dX51_read_164 : decode cX51_read 164 = .ok (.getfield 165, 3) := dk_180 0 165 (dk_at dksX51_read_7 0 rfl rfl)
theorem dX51_read_167 : decode cX51_read 167 = .ok (.aload_n 0, 1) := dk_42 (dk_at dksX51_read_7 3 rfl rfl)
theorem dX51_read_168 : decode cX51_read 168 = .ok (.iload 4, 2) := dk_21 4 (dk_at dksX51_read_7 4 rfl rfl)
theorem dX51_read_170 : decode cX51_read 170 = .ok (.iconst 1, 1) := dk_4 (dk_at dksX51_read_7 6 rfl rfl)
theorem dX51_read_171 : decode cX51_read 171 = .ok (.iadd, 1) := dk_96 (dk_at dksX51_read_7 7 rfl rfl)
theorem dX51_read_172 : decode cX51_read 172 = .ok (.invokevirtual 172, 3) := dk_182 0 172 (dk_at dksX51_read_7 8 rfl rfl)
theorem dX51_read_175 : decode cX51_read 175 = .ok (.iastore, 1) := dk_79 (dk_at dksX51_read_7 11 rfl rfl)
theorem dX51_read_176 : decode cX51_read 176 = .ok (.aload_n 0, 1) := dk_42 (dk_at dksX51_read_7 12 rfl rfl)
theorem dX51_read_177 : decode cX51_read 177 = .ok (.dup, 1) := dk_89 (dk_at dksX51_read_7 13 rfl rfl)
theorem dX51_read_178 : decode cX51_read 178 = .ok (.getfield 165, 3) := dk_180 0 165 (dk_at dksX51_read_7 14 rfl rfl)
theorem dX51_read_181 : decode cX51_read 181 = .ok (.iconst 1, 1) := dk_4 (dk_at dksX51_read_7 17 rfl rfl)
theorem dX51_read_182 : decode cX51_read 182 = .ok (.iadd, 1) := dk_96 (dk_at dksX51_read_7 18 rfl rfl)
theorem dX51_read_183 : decode cX51_read 183 = .ok (.putfield 165, 3) := dk_181 0 165 (dk_at dksX51_read_7 19 rfl rfl)
theorem dX51_read_186 : decode cX51_read 186 = .ok (.aload_n 0, 1) := dk_42 (dk_at dksX51_read_7 22 rfl rfl)
theorem dX51_read_187 : decode cX51_read 187 = .ok (.iload 4, 2) := dk_21 4 (dk_at dksX51_read_8 0 rfl rfl)
theorem dX51_read_189 : decode cX51_read 189 = .ok (.ldc2_w 137, 3) := dk_20 0 137 (dk_at dksX51_read_8 2 rfl rfl)
theorem dX51_read_192 : decode cX51_read 192 = .ok (.invokevirtual 168, 3) := dk_182 0 168 (dk_at dksX51_read_8 5 rfl rfl)
theorem dX51_read_195 : decode cX51_read 195 = .ok (.ifCond .eq 39, 3) := dk_153 0 39 (dk_at dksX51_read_8 8 rfl rfl)
theorem dX51_read_198 : decode cX51_read 198 = .ok (.aload_n 0, 1) := dk_42 (dk_at dksX51_read_8 11 rfl rfl)
theorem dX51_read_199 : decode cX51_read 199 = .ok (.getfield 29, 3) := dk_180 0 29 (dk_at dksX51_read_8 12 rfl rfl)
theorem dX51_read_202 : decode cX51_read 202 = .ok (.aload_n 0, 1) := dk_42 (dk_at dksX51_read_8 15 rfl rfl)
theorem dX51_read_203 : decode cX51_read 203 = .ok (.getfield 162, 3) := dk_180 0 162 (dk_at dksX51_read_8 16 rfl rfl)
theorem dX51_read_206 : decode cX51_read 206 = .ok (.iload 4, 2) := dk_21 4 (dk_at dksX51_read_8 19 rfl rfl)
theorem dX51_read_208 : decode cX51_read 208 = .ok (.iastore, 1) := dk_79 (dk_at dksX51_read_8 21 rfl rfl)
theorem dX51_read_209 : decode cX51_read 209 = .ok (.aload_n 0, 1) := dk_42 (dk_at dksX51_read_8 22 rfl rfl)
theorem dX51_read_210 : decode cX51_read 210 = .ok (.getfield 32, 3) := dk_180 0 32 (dk_at dksX51_read_9 0 rfl rfl)
theorem dX51_read_213 : decode cX51_read 213 = .ok (.aload_n 0, 1) := dk_42 (dk_at dksX51_read_9 3 rfl rfl)
theorem dX51_read_214 : decode cX51_read 214 = .ok (.getfield 162, 3) := dk_180 0 162 (dk_at dksX51_read_9 4 rfl rfl)
theorem dX51_read_217 : decode cX51_read 217 = .ok (.aload_n 0, 1) := dk_42 (dk_at dksX51_read_9 7 rfl rfl)
theorem dX51_read_218 : decode cX51_read 218 = .ok (.getfield 165, 3) := dk_180 0 165 (dk_at dksX51_read_9 8 rfl rfl)
theorem dX51_read_221 : decode cX51_read 221 = .ok (.iconst 1, 1) := dk_4 (dk_at dksX51_read_9 11 rfl rfl)
theorem dX51_read_222 : decode cX51_read 222 = .ok (.isub, 1) := dk_100 (dk_at dksX51_read_9 12 rfl rfl)
theorem dX51_read_223 : decode cX51_read 223 = .ok (.iastore, 1) := dk_79 (dk_at dksX51_read_9 13 rfl rfl)
theorem dX51_read_224 : decode cX51_read 224 = .ok (.aload_n 0, 1) := dk_42 (dk_at dksX51_read_9 14 rfl rfl)
theorem dX51_read_225 : decode cX51_read 225 = .ok (.dup, 1) := dk_89 (dk_at dksX51_read_9 15 rfl rfl)
theorem dX51_read_226 : decode cX51_read 226 = .ok (.getfield 162, 3) := dk_180 0 162 (dk_at dksX51_read_9 16 rfl rfl)
theorem dX51_read_229 : decode cX51_read 229 = .ok (.iconst 1, 1) := dk_4 (dk_at dksX51_read_9 19 rfl rfl)
theorem dX51_read_230 : decode cX51_read 230 = .ok (.iadd, 1) := dk_96 (dk_at dksX51_read_9 20 rfl rfl)
theorem dX51_read_231 : decode cX51_read 231 = .ok (.putfield 162, 3) := dk_181 0 162 (dk_at dksX51_read_9 21 rfl rfl)
theorem dX51_read_234 : decode cX51_read 234 = .ok (.iinc 4 1, 3) := dk_132 4 1 (dk_at dksX51_read_10 0 rfl rfl)
theorem dX51_read_237 : decode cX51_read 237 = .ok (.goto (-99), 3) := dk_167 255 157 (dk_at dksX51_read_10 3 rfl rfl)
theorem dX51_read_240 : decode cX51_read 240 = .ok (.aload_n 0, 1) := dk_42 (dk_at dksX51_read_10 6 rfl rfl)
theorem dX51_read_241 : decode cX51_read 241 = .ok (.invokevirtual 176, 3) := dk_182 0 176 (dk_at dksX51_read_10 7 rfl rfl)
theorem dX51_read_244 : decode cX51_read 244 = .ok (.aload_n 0, 1) := dk_42 (dk_at dksX51_read_10 10 rfl rfl)
theorem dX51_read_245 : decode cX51_read 245 = .ok (.getfield 162, 3) := dk_180 0 162 (dk_at dksX51_read_10 11 rfl rfl)
theorem dX51_read_248 : decode cX51_read 248 = .ok (.ireturn, 1) := dk_172 (dk_at dksX51_read_10 14 rfl rfl)
abbrev cX51_split : ByteArray := prog_60_method_5_code
def yX51_split : MethodName := ⟨RX51, "split", "()V"⟩
def dkwX51_split_3 : List UInt8 := [89, 180, 0, 74, 4, 96, 181, 0, 74, 28, 4, 96, 60, 167, 255, 181, 177]
abbrev dktX51_split_3 : List UInt8 := dkwX51_split_3 ++ []
def dkwX51_split_2 : List UInt8 := [164, 0, 33, 42, 180, 0, 23, 42, 180, 0, 74, 27, 79, 42, 180, 0, 26, 42, 180, 0, 74, 28, 79, 42]
abbrev dktX51_split_2 : List UInt8 := dkwX51_split_2 ++ dktX51_split_3
def dkwX51_split_1 : List UInt8 := [162, 0, 21, 42, 180, 0, 7, 28, 51, 184, 0, 77, 154, 0, 9, 132, 2, 1, 167, 255, 233, 28, 27]
abbrev dktX51_split_1 : List UInt8 := dkwX51_split_1 ++ dktX51_split_2
def dkwX51_split_0 : List UInt8 := [42, 3, 181, 0, 74, 3, 60, 27, 42, 180, 0, 71, 162, 0, 73, 27, 61, 28, 42, 180, 0, 71]
abbrev dktX51_split_0 : List UInt8 := dkwX51_split_0 ++ dktX51_split_1
theorem dksX51_split_0 : cX51_split.data.toList.drop 0 = dktX51_split_0 := by decide +kernel
theorem dksX51_split_1 : cX51_split.data.toList.drop 22 = dktX51_split_1 := dk_seg dksX51_split_0 22 rfl rfl
theorem dksX51_split_2 : cX51_split.data.toList.drop 45 = dktX51_split_2 := dk_seg dksX51_split_1 23 rfl rfl
theorem dksX51_split_3 : cX51_split.data.toList.drop 69 = dktX51_split_3 := dk_seg dksX51_split_2 24 rfl rfl
theorem dX51_split_0 : decode cX51_split 0 = .ok (.aload_n 0, 1) := dk_42 (dk_at dksX51_split_0 0 rfl rfl)
theorem dX51_split_1 : decode cX51_split 1 = .ok (.iconst 0, 1) := dk_3 (dk_at dksX51_split_0 1 rfl rfl)
theorem dX51_split_2 : decode cX51_split 2 = .ok (.putfield 74, 3) := dk_181 0 74 (dk_at dksX51_split_0 2 rfl rfl)
theorem dX51_split_5 : decode cX51_split 5 = .ok (.iconst 0, 1) := dk_3 (dk_at dksX51_split_0 5 rfl rfl)
theorem dX51_split_6 : decode cX51_split 6 = .ok (.istore_n 1, 1) := dk_60 (dk_at dksX51_split_0 6 rfl rfl)
theorem dX51_split_7 : decode cX51_split 7 = .ok (.iload_n 1, 1) := dk_27 (dk_at dksX51_split_0 7 rfl rfl)
theorem dX51_split_8 : decode cX51_split 8 = .ok (.aload_n 0, 1) := dk_42 (dk_at dksX51_split_0 8 rfl rfl)
theorem dX51_split_9 : decode cX51_split 9 = .ok (.getfield 71, 3) := dk_180 0 71 (dk_at dksX51_split_0 9 rfl rfl)
theorem dX51_split_12 : decode cX51_split 12 = .ok (.if_icmp .ge 73, 3) := dk_162 0 73 (dk_at dksX51_split_0 12 rfl rfl)
theorem dX51_split_15 : decode cX51_split 15 = .ok (.iload_n 1, 1) := dk_27 (dk_at dksX51_split_0 15 rfl rfl)
theorem dX51_split_16 : decode cX51_split 16 = .ok (.istore_n 2, 1) := dk_61 (dk_at dksX51_split_0 16 rfl rfl)
theorem dX51_split_17 : decode cX51_split 17 = .ok (.iload_n 2, 1) := dk_28 (dk_at dksX51_split_0 17 rfl rfl)
theorem dX51_split_18 : decode cX51_split 18 = .ok (.aload_n 0, 1) := dk_42 (dk_at dksX51_split_0 18 rfl rfl)
theorem dX51_split_19 : decode cX51_split 19 = .ok (.getfield 71, 3) := dk_180 0 71 (dk_at dksX51_split_0 19 rfl rfl)
theorem dX51_split_22 : decode cX51_split 22 = .ok (.if_icmp .ge 21, 3) := dk_162 0 21 (dk_at dksX51_split_1 0 rfl rfl)
theorem dX51_split_25 : decode cX51_split 25 = .ok (.aload_n 0, 1) := dk_42 (dk_at dksX51_split_1 3 rfl rfl)
theorem dX51_split_26 : decode cX51_split 26 = .ok (.getfield 7, 3) := dk_180 0 7 (dk_at dksX51_split_1 4 rfl rfl)
theorem dX51_split_29 : decode cX51_split 29 = .ok (.iload_n 2, 1) := dk_28 (dk_at dksX51_split_1 7 rfl rfl)
theorem dX51_split_30 : decode cX51_split 30 = .ok (.baload, 1) := dk_51 (dk_at dksX51_split_1 8 rfl rfl)
theorem dX51_split_31 : decode cX51_split 31 = .ok (.invokestatic 77, 3) := dk_184 0 77 (dk_at dksX51_split_1 9 rfl rfl)
theorem dX51_split_34 : decode cX51_split 34 = .ok (.ifCond .ne 9, 3) := dk_154 0 9 (dk_at dksX51_split_1 12 rfl rfl)
theorem dX51_split_37 : decode cX51_split 37 = .ok (.iinc 2 1, 3) := dk_132 2 1 (dk_at dksX51_split_1 15 rfl rfl)
theorem dX51_split_40 : decode cX51_split 40 = .ok (.goto (-23), 3) := dk_167 255 233 (dk_at dksX51_split_1 18 rfl rfl)
theorem dX51_split_43 : decode cX51_split 43 = .ok (.iload_n 2, 1) := dk_28 (dk_at dksX51_split_1 21 rfl rfl)
theorem dX51_split_44 : decode cX51_split 44 = .ok (.iload_n 1, 1) := dk_27 (dk_at dksX51_split_1 22 rfl rfl)
theorem dX51_split_45 : decode cX51_split 45 = .ok (.if_icmp .le 33, 3) := dk_164 0 33 (dk_at dksX51_split_2 0 rfl rfl)
theorem dX51_split_48 : decode cX51_split 48 = .ok (.aload_n 0, 1) := dk_42 (dk_at dksX51_split_2 3 rfl rfl)
theorem dX51_split_49 : decode cX51_split 49 = .ok (.getfield 23, 3) := dk_180 0 23 (dk_at dksX51_split_2 4 rfl rfl)
theorem dX51_split_52 : decode cX51_split 52 = .ok (.aload_n 0, 1) := dk_42 (dk_at dksX51_split_2 7 rfl rfl)
theorem dX51_split_53 : decode cX51_split 53 = .ok (.getfield 74, 3) := dk_180 0 74 (dk_at dksX51_split_2 8 rfl rfl)
theorem dX51_split_56 : decode cX51_split 56 = .ok (.iload_n 1, 1) := dk_27 (dk_at dksX51_split_2 11 rfl rfl)
theorem dX51_split_57 : decode cX51_split 57 = .ok (.iastore, 1) := dk_79 (dk_at dksX51_split_2 12 rfl rfl)
theorem dX51_split_58 : decode cX51_split 58 = .ok (.aload_n 0, 1) := dk_42 (dk_at dksX51_split_2 13 rfl rfl)
theorem dX51_split_59 : decode cX51_split 59 = .ok (.getfield 26, 3) := dk_180 0 26 (dk_at dksX51_split_2 14 rfl rfl)
theorem dX51_split_62 : decode cX51_split 62 = .ok (.aload_n 0, 1) := dk_42 (dk_at dksX51_split_2 17 rfl rfl)
theorem dX51_split_63 : decode cX51_split 63 = .ok (.getfield 74, 3) := dk_180 0 74 (dk_at dksX51_split_2 18 rfl rfl)
theorem dX51_split_66 : decode cX51_split 66 = .ok (.iload_n 2, 1) := dk_28 (dk_at dksX51_split_2 21 rfl rfl)
theorem dX51_split_67 : decode cX51_split 67 = .ok (.iastore, 1) := dk_79 (dk_at dksX51_split_2 22 rfl rfl)
theorem dX51_split_68 : decode cX51_split 68 = .ok (.aload_n 0, 1) := dk_42 (dk_at dksX51_split_2 23 rfl rfl)
theorem dX51_split_69 : decode cX51_split 69 = .ok (.dup, 1) := dk_89 (dk_at dksX51_split_3 0 rfl rfl)
theorem dX51_split_70 : decode cX51_split 70 = .ok (.getfield 74, 3) := dk_180 0 74 (dk_at dksX51_split_3 1 rfl rfl)
theorem dX51_split_73 : decode cX51_split 73 = .ok (.iconst 1, 1) := dk_4 (dk_at dksX51_split_3 4 rfl rfl)
theorem dX51_split_74 : decode cX51_split 74 = .ok (.iadd, 1) := dk_96 (dk_at dksX51_split_3 5 rfl rfl)
theorem dX51_split_75 : decode cX51_split 75 = .ok (.putfield 74, 3) := dk_181 0 74 (dk_at dksX51_split_3 6 rfl rfl)
theorem dX51_split_78 : decode cX51_split 78 = .ok (.iload_n 2, 1) := dk_28 (dk_at dksX51_split_3 9 rfl rfl)
theorem dX51_split_79 : decode cX51_split 79 = .ok (.iconst 1, 1) := dk_4 (dk_at dksX51_split_3 10 rfl rfl)
theorem dX51_split_80 : decode cX51_split 80 = .ok (.iadd, 1) := dk_96 (dk_at dksX51_split_3 11 rfl rfl)
theorem dX51_split_81 : decode cX51_split 81 = .ok (.istore_n 1, 1) := dk_60 (dk_at dksX51_split_3 12 rfl rfl)
theorem dX51_split_82 : decode cX51_split 82 = .ok (.goto (-75), 3) := dk_167 255 181 (dk_at dksX51_split_3 13 rfl rfl)
theorem dX51_split_85 : decode cX51_split 85 = .ok (.return_, 1) := dk_177 (dk_at dksX51_split_3 16 rfl rfl)
abbrev cX51_isGap : ByteArray := prog_60_method_4_code
def yX51_isGap : MethodName := ⟨RX51, "isGap", "(I)Z"⟩
def dkwX51_isGap_0 : List UInt8 := [26, 16, 32, 159, 0, 9, 26, 16, 10, 160, 0, 7, 4, 167, 0, 4, 3, 172]
abbrev dktX51_isGap_0 : List UInt8 := dkwX51_isGap_0 ++ []
theorem dksX51_isGap_0 : cX51_isGap.data.toList.drop 0 = dktX51_isGap_0 := by decide +kernel
theorem dX51_isGap_0 : decode cX51_isGap 0 = .ok (.iload_n 0, 1) := dk_26 (dk_at dksX51_isGap_0 0 rfl rfl)
theorem dX51_isGap_1 : decode cX51_isGap 1 = .ok (.bipush 32, 2) := dk_16 32 (dk_at dksX51_isGap_0 1 rfl rfl)
theorem dX51_isGap_3 : decode cX51_isGap 3 = .ok (.if_icmp .eq 9, 3) := dk_159 0 9 (dk_at dksX51_isGap_0 3 rfl rfl)
theorem dX51_isGap_6 : decode cX51_isGap 6 = .ok (.iload_n 0, 1) := dk_26 (dk_at dksX51_isGap_0 6 rfl rfl)
theorem dX51_isGap_7 : decode cX51_isGap 7 = .ok (.bipush 10, 2) := dk_16 10 (dk_at dksX51_isGap_0 7 rfl rfl)
theorem dX51_isGap_9 : decode cX51_isGap 9 = .ok (.if_icmp .ne 7, 3) := dk_160 0 7 (dk_at dksX51_isGap_0 9 rfl rfl)
theorem dX51_isGap_12 : decode cX51_isGap 12 = .ok (.iconst 1, 1) := dk_4 (dk_at dksX51_isGap_0 12 rfl rfl)
theorem dX51_isGap_13 : decode cX51_isGap 13 = .ok (.goto 4, 3) := dk_167 0 4 (dk_at dksX51_isGap_0 13 rfl rfl)
theorem dX51_isGap_16 : decode cX51_isGap 16 = .ok (.iconst 0, 1) := dk_3 (dk_at dksX51_isGap_0 16 rfl rfl)
theorem dX51_isGap_17 : decode cX51_isGap 17 = .ok (.ireturn, 1) := dk_172 (dk_at dksX51_isGap_0 17 rfl rfl)
abbrev cX51_eatsAll : ByteArray := prog_60_method_15_code
def yX51_eatsAll : MethodName := ⟨RX51, "eatsAll", "()Z"⟩
def dkwX51_eatsAll_5 : List UInt8 := [167, 255, 220, 29, 172]
abbrev dktX51_eatsAll_5 : List UInt8 := dkwX51_eatsAll_5 ++ []
def dkwX51_eatsAll_4 : List UInt8 := [28, 16, 60, 162, 0, 14, 42, 182, 0, 150, 153, 0, 7, 4, 167, 0, 4, 3, 62, 132, 2, 1]
abbrev dktX51_eatsAll_4 : List UInt8 := dkwX51_eatsAll_4 ++ dktX51_eatsAll_5
def dkwX51_eatsAll_3 : List UInt8 := [184, 0, 94, 4, 96, 167, 0, 4, 3, 60, 29, 153, 255, 182, 42, 20, 0, 137, 182, 0, 90, 153, 255, 172]
abbrev dktX51_eatsAll_3 : List UInt8 := dkwX51_eatsAll_3 ++ dktX51_eatsAll_4
def dkwX51_eatsAll_2 : List UInt8 := [62, 29, 153, 0, 29, 42, 180, 0, 7, 42, 180, 0, 23, 42, 180, 0, 26, 42, 180, 0, 83, 4, 100]
abbrev dktX51_eatsAll_2 : List UInt8 := dkwX51_eatsAll_2 ++ dktX51_eatsAll_3
def dkwX51_eatsAll_1 : List UInt8 := [20, 0, 148, 182, 0, 100, 153, 0, 17, 42, 27, 18, 113, 182, 0, 105, 153, 0, 7, 4, 167, 0, 4, 3]
abbrev dktX51_eatsAll_1 : List UInt8 := dkwX51_eatsAll_1 ++ dktX51_eatsAll_2
def dkwX51_eatsAll_0 : List UInt8 := [3, 60, 3, 61, 4, 62, 29, 153, 0, 111, 42, 180, 0, 83, 42, 180, 0, 74, 162, 0, 100, 42]
abbrev dktX51_eatsAll_0 : List UInt8 := dkwX51_eatsAll_0 ++ dktX51_eatsAll_1
theorem dksX51_eatsAll_0 : cX51_eatsAll.data.toList.drop 0 = dktX51_eatsAll_0 := by decide +kernel
theorem dksX51_eatsAll_1 : cX51_eatsAll.data.toList.drop 22 = dktX51_eatsAll_1 := dk_seg dksX51_eatsAll_0 22 rfl rfl
theorem dksX51_eatsAll_2 : cX51_eatsAll.data.toList.drop 46 = dktX51_eatsAll_2 := dk_seg dksX51_eatsAll_1 24 rfl rfl
theorem dksX51_eatsAll_3 : cX51_eatsAll.data.toList.drop 69 = dktX51_eatsAll_3 := dk_seg dksX51_eatsAll_2 23 rfl rfl
theorem dksX51_eatsAll_4 : cX51_eatsAll.data.toList.drop 93 = dktX51_eatsAll_4 := dk_seg dksX51_eatsAll_3 24 rfl rfl
theorem dksX51_eatsAll_5 : cX51_eatsAll.data.toList.drop 115 = dktX51_eatsAll_5 := dk_seg dksX51_eatsAll_4 22 rfl rfl
theorem dX51_eatsAll_0 : decode cX51_eatsAll 0 = .ok (.iconst 0, 1) := dk_3 (dk_at dksX51_eatsAll_0 0 rfl rfl)
theorem dX51_eatsAll_1 : decode cX51_eatsAll 1 = .ok (.istore_n 1, 1) := dk_60 (dk_at dksX51_eatsAll_0 1 rfl rfl)
theorem dX51_eatsAll_2 : decode cX51_eatsAll 2 = .ok (.iconst 0, 1) := dk_3 (dk_at dksX51_eatsAll_0 2 rfl rfl)
theorem dX51_eatsAll_3 : decode cX51_eatsAll 3 = .ok (.istore_n 2, 1) := dk_61 (dk_at dksX51_eatsAll_0 3 rfl rfl)
theorem dX51_eatsAll_4 : decode cX51_eatsAll 4 = .ok (.iconst 1, 1) := dk_4 (dk_at dksX51_eatsAll_0 4 rfl rfl)
theorem dX51_eatsAll_5 : decode cX51_eatsAll 5 = .ok (.istore_n 3, 1) := dk_62 (dk_at dksX51_eatsAll_0 5 rfl rfl)
theorem dX51_eatsAll_6 : decode cX51_eatsAll 6 = .ok (.iload_n 3, 1) := dk_29 (dk_at dksX51_eatsAll_0 6 rfl rfl)
theorem dX51_eatsAll_7 : decode cX51_eatsAll 7 = .ok (.ifCond .eq 111, 3) := dk_153 0 111 (dk_at dksX51_eatsAll_0 7 rfl rfl)
theorem dX51_eatsAll_10 : decode cX51_eatsAll 10 = .ok (.aload_n 0, 1) := dk_42 (dk_at dksX51_eatsAll_0 10 rfl rfl)
theorem dX51_eatsAll_11 : decode cX51_eatsAll 11 = .ok (.getfield 83, 3) := dk_180 0 83 (dk_at dksX51_eatsAll_0 11 rfl rfl)
theorem dX51_eatsAll_14 : decode cX51_eatsAll 14 = .ok (.aload_n 0, 1) := dk_42 (dk_at dksX51_eatsAll_0 14 rfl rfl)
theorem dX51_eatsAll_15 : decode cX51_eatsAll 15 = .ok (.getfield 74, 3) := dk_180 0 74 (dk_at dksX51_eatsAll_0 15 rfl rfl)
theorem dX51_eatsAll_18 : decode cX51_eatsAll 18 = .ok (.if_icmp .ge 100, 3) := dk_162 0 100 (dk_at dksX51_eatsAll_0 18 rfl rfl)
theorem dX51_eatsAll_21 : decode cX51_eatsAll 21 = .ok (.aload_n 0, 1) := dk_42 (dk_at dksX51_eatsAll_0 21 rfl rfl)
theorem dX51_eatsAll_22 : decode cX51_eatsAll 22 = .ok (.ldc2_w 148, 3) := dk_20 0 148 (dk_at dksX51_eatsAll_1 0 rfl rfl)
theorem dX51_eatsAll_25 : decode cX51_eatsAll 25 = .ok (.invokevirtual 100, 3) := dk_182 0 100 (dk_at dksX51_eatsAll_1 3 rfl rfl)
theorem dX51_eatsAll_28 : decode cX51_eatsAll 28 = .ok (.ifCond .eq 17, 3) := dk_153 0 17 (dk_at dksX51_eatsAll_1 6 rfl rfl)
theorem dX51_eatsAll_31 : decode cX51_eatsAll 31 = .ok (.aload_n 0, 1) := dk_42 (dk_at dksX51_eatsAll_1 9 rfl rfl)
theorem dX51_eatsAll_32 : decode cX51_eatsAll 32 = .ok (.iload_n 1, 1) := dk_27 (dk_at dksX51_eatsAll_1 10 rfl rfl)
theorem dX51_eatsAll_33 : decode cX51_eatsAll 33 = .ok (.ldc 113, 2) := dk_18 113 (dk_at dksX51_eatsAll_1 11 rfl rfl)
theorem dX51_eatsAll_35 : decode cX51_eatsAll 35 = .ok (.invokevirtual 105, 3) := dk_182 0 105 (dk_at dksX51_eatsAll_1 13 rfl rfl)
theorem dX51_eatsAll_38 : decode cX51_eatsAll 38 = .ok (.ifCond .eq 7, 3) := dk_153 0 7 (dk_at dksX51_eatsAll_1 16 rfl rfl)
theorem dX51_eatsAll_41 : decode cX51_eatsAll 41 = .ok (.iconst 1, 1) := dk_4 (dk_at dksX51_eatsAll_1 19 rfl rfl)
theorem dX51_eatsAll_42 : decode cX51_eatsAll 42 = .ok (.goto 4, 3) := dk_167 0 4 (dk_at dksX51_eatsAll_1 20 rfl rfl)
theorem dX51_eatsAll_45 : decode cX51_eatsAll 45 = .ok (.iconst 0, 1) := dk_3 (dk_at dksX51_eatsAll_1 23 rfl rfl)
theorem dX51_eatsAll_46 : decode cX51_eatsAll 46 = .ok (.istore_n 3, 1) := dk_62 (dk_at dksX51_eatsAll_2 0 rfl rfl)
theorem dX51_eatsAll_47 : decode cX51_eatsAll 47 = .ok (.iload_n 3, 1) := dk_29 (dk_at dksX51_eatsAll_2 1 rfl rfl)
theorem dX51_eatsAll_48 : decode cX51_eatsAll 48 = .ok (.ifCond .eq 29, 3) := dk_153 0 29 (dk_at dksX51_eatsAll_2 2 rfl rfl)
theorem dX51_eatsAll_51 : decode cX51_eatsAll 51 = .ok (.aload_n 0, 1) := dk_42 (dk_at dksX51_eatsAll_2 5 rfl rfl)
theorem dX51_eatsAll_52 : decode cX51_eatsAll 52 = .ok (.getfield 7, 3) := dk_180 0 7 (dk_at dksX51_eatsAll_2 6 rfl rfl)
theorem dX51_eatsAll_55 : decode cX51_eatsAll 55 = .ok (.aload_n 0, 1) := dk_42 (dk_at dksX51_eatsAll_2 9 rfl rfl)
theorem dX51_eatsAll_56 : decode cX51_eatsAll 56 = .ok (.getfield 23, 3) := dk_180 0 23 (dk_at dksX51_eatsAll_2 10 rfl rfl)
theorem dX51_eatsAll_59 : decode cX51_eatsAll 59 = .ok (.aload_n 0, 1) := dk_42 (dk_at dksX51_eatsAll_2 13 rfl rfl)
theorem dX51_eatsAll_60 : decode cX51_eatsAll 60 = .ok (.getfield 26, 3) := dk_180 0 26 (dk_at dksX51_eatsAll_2 14 rfl rfl)
theorem dX51_eatsAll_63 : decode cX51_eatsAll 63 = .ok (.aload_n 0, 1) := dk_42 (dk_at dksX51_eatsAll_2 17 rfl rfl)
theorem dX51_eatsAll_64 : decode cX51_eatsAll 64 = .ok (.getfield 83, 3) := dk_180 0 83 (dk_at dksX51_eatsAll_2 18 rfl rfl)
theorem dX51_eatsAll_67 : decode cX51_eatsAll 67 = .ok (.iconst 1, 1) := dk_4 (dk_at dksX51_eatsAll_2 21 rfl rfl)
theorem dX51_eatsAll_68 : decode cX51_eatsAll 68 = .ok (.isub, 1) := dk_100 (dk_at dksX51_eatsAll_2 22 rfl rfl)
theorem dX51_eatsAll_69 : decode cX51_eatsAll 69 = .ok (.invokestatic 94, 3) := dk_184 0 94 (dk_at dksX51_eatsAll_3 0 rfl rfl)
theorem dX51_eatsAll_72 : decode cX51_eatsAll 72 = .ok (.iconst 1, 1) := dk_4 (dk_at dksX51_eatsAll_3 3 rfl rfl)
theorem dX51_eatsAll_73 : decode cX51_eatsAll 73 = .ok (.iadd, 1) := dk_96 (dk_at dksX51_eatsAll_3 4 rfl rfl)
theorem dX51_eatsAll_74 : decode cX51_eatsAll 74 = .ok (.goto 4, 3) := dk_167 0 4 (dk_at dksX51_eatsAll_3 5 rfl rfl)
theorem dX51_eatsAll_77 : decode cX51_eatsAll 77 = .ok (.iconst 0, 1) := dk_3 (dk_at dksX51_eatsAll_3 8 rfl rfl)
theorem dX51_eatsAll_78 : decode cX51_eatsAll 78 = .ok (.istore_n 1, 1) := dk_60 (dk_at dksX51_eatsAll_3 9 rfl rfl)
theorem dX51_eatsAll_79 : decode cX51_eatsAll 79 = .ok (.iload_n 3, 1) := dk_29 (dk_at dksX51_eatsAll_3 10 rfl rfl)
theorem dX51_eatsAll_80 : decode cX51_eatsAll 80 = .ok (.ifCond .eq (-74), 3) := dk_153 255 182 (dk_at dksX51_eatsAll_3 11 rfl rfl)
theorem dX51_eatsAll_83 : decode cX51_eatsAll 83 = .ok (.aload_n 0, 1) := dk_42 (dk_at dksX51_eatsAll_3 14 rfl rfl)
theorem dX51_eatsAll_84 : decode cX51_eatsAll 84 = .ok (.ldc2_w 137, 3) := dk_20 0 137 (dk_at dksX51_eatsAll_3 15 rfl rfl)
theorem dX51_eatsAll_87 : decode cX51_eatsAll 87 = .ok (.invokevirtual 90, 3) := dk_182 0 90 (dk_at dksX51_eatsAll_3 18 rfl rfl)
theorem dX51_eatsAll_90 : decode cX51_eatsAll 90 = .ok (.ifCond .eq (-84), 3) := dk_153 255 172 (dk_at dksX51_eatsAll_3 21 rfl rfl)
theorem dX51_eatsAll_93 : decode cX51_eatsAll 93 = .ok (.iload_n 2, 1) := dk_28 (dk_at dksX51_eatsAll_4 0 rfl rfl)
theorem dX51_eatsAll_94 : decode cX51_eatsAll 94 = .ok (.bipush 60, 2) := dk_16 60 (dk_at dksX51_eatsAll_4 1 rfl rfl)
theorem dX51_eatsAll_96 : decode cX51_eatsAll 96 = .ok (.if_icmp .ge 14, 3) := dk_162 0 14 (dk_at dksX51_eatsAll_4 3 rfl rfl)
theorem dX51_eatsAll_99 : decode cX51_eatsAll 99 = .ok (.aload_n 0, 1) := dk_42 (dk_at dksX51_eatsAll_4 6 rfl rfl)
theorem dX51_eatsAll_100 : decode cX51_eatsAll 100 = .ok (.invokevirtual 150, 3) := dk_182 0 150 (dk_at dksX51_eatsAll_4 7 rfl rfl)
theorem dX51_eatsAll_103 : decode cX51_eatsAll 103 = .ok (.ifCond .eq 7, 3) := dk_153 0 7 (dk_at dksX51_eatsAll_4 10 rfl rfl)
theorem dX51_eatsAll_106 : decode cX51_eatsAll 106 = .ok (.iconst 1, 1) := dk_4 (dk_at dksX51_eatsAll_4 13 rfl rfl)
theorem dX51_eatsAll_107 : decode cX51_eatsAll 107 = .ok (.goto 4, 3) := dk_167 0 4 (dk_at dksX51_eatsAll_4 14 rfl rfl)
theorem dX51_eatsAll_110 : decode cX51_eatsAll 110 = .ok (.iconst 0, 1) := dk_3 (dk_at dksX51_eatsAll_4 17 rfl rfl)
theorem dX51_eatsAll_111 : decode cX51_eatsAll 111 = .ok (.istore_n 3, 1) := dk_62 (dk_at dksX51_eatsAll_4 18 rfl rfl)
theorem dX51_eatsAll_112 : decode cX51_eatsAll 112 = .ok (.iinc 2 1, 3) := dk_132 2 1 (dk_at dksX51_eatsAll_4 19 rfl rfl)
theorem dX51_eatsAll_115 : decode cX51_eatsAll 115 = .ok (.goto (-36), 3) := dk_167 255 220 (dk_at dksX51_eatsAll_5 0 rfl rfl)
theorem dX51_eatsAll_118 : decode cX51_eatsAll 118 = .ok (.iload_n 3, 1) := dk_29 (dk_at dksX51_eatsAll_5 3 rfl rfl)
theorem dX51_eatsAll_119 : decode cX51_eatsAll 119 = .ok (.ireturn, 1) := dk_172 (dk_at dksX51_eatsAll_5 4 rfl rfl)
abbrev cX51_eats : ByteArray := prog_60_method_9_code
def yX51_eats : MethodName := ⟨RX51, "eats", "(J)Z"⟩
def dkwX51_eats_1 : List UInt8 := [181, 0, 83, 29, 172]
abbrev dktX51_eats_1 : List UInt8 := dkwX51_eats_1 ++ []
def dkwX51_eats_0 : List UInt8 := [42, 31, 182, 0, 90, 62, 42, 29, 153, 0, 12, 42, 180, 0, 83, 4, 96, 167, 0, 7, 42, 180, 0, 83]
abbrev dktX51_eats_0 : List UInt8 := dkwX51_eats_0 ++ dktX51_eats_1
theorem dksX51_eats_0 : cX51_eats.data.toList.drop 0 = dktX51_eats_0 := by decide +kernel
theorem dksX51_eats_1 : cX51_eats.data.toList.drop 24 = dktX51_eats_1 := dk_seg dksX51_eats_0 24 rfl rfl
theorem dX51_eats_0 : decode cX51_eats 0 = .ok (.aload_n 0, 1) := dk_42 (dk_at dksX51_eats_0 0 rfl rfl)
theorem dX51_eats_1 : decode cX51_eats 1 = .ok (.lload_n 1, 1) := dk_31 (dk_at dksX51_eats_0 1 rfl rfl)
theorem dX51_eats_2 : decode cX51_eats 2 = .ok (.invokevirtual 90, 3) := dk_182 0 90 (dk_at dksX51_eats_0 2 rfl rfl)
theorem dX51_eats_5 : decode cX51_eats 5 = .ok (.istore_n 3, 1) := dk_62 (dk_at dksX51_eats_0 5 rfl rfl)
theorem dX51_eats_6 : decode cX51_eats 6 = .ok (.aload_n 0, 1) := dk_42 (dk_at dksX51_eats_0 6 rfl rfl)
theorem dX51_eats_7 : decode cX51_eats 7 = .ok (.iload_n 3, 1) := dk_29 (dk_at dksX51_eats_0 7 rfl rfl)
theorem dX51_eats_8 : decode cX51_eats 8 = .ok (.ifCond .eq 12, 3) := dk_153 0 12 (dk_at dksX51_eats_0 8 rfl rfl)
theorem dX51_eats_11 : decode cX51_eats 11 = .ok (.aload_n 0, 1) := dk_42 (dk_at dksX51_eats_0 11 rfl rfl)
theorem dX51_eats_12 : decode cX51_eats 12 = .ok (.getfield 83, 3) := dk_180 0 83 (dk_at dksX51_eats_0 12 rfl rfl)
theorem dX51_eats_15 : decode cX51_eats 15 = .ok (.iconst 1, 1) := dk_4 (dk_at dksX51_eats_0 15 rfl rfl)
theorem dX51_eats_16 : decode cX51_eats 16 = .ok (.iadd, 1) := dk_96 (dk_at dksX51_eats_0 16 rfl rfl)
theorem dX51_eats_17 : decode cX51_eats 17 = .ok (.goto 7, 3) := dk_167 0 7 (dk_at dksX51_eats_0 17 rfl rfl)
theorem dX51_eats_20 : decode cX51_eats 20 = .ok (.aload_n 0, 1) := dk_42 (dk_at dksX51_eats_0 20 rfl rfl)
theorem dX51_eats_21 : decode cX51_eats 21 = .ok (.getfield 83, 3) := dk_180 0 83 (dk_at dksX51_eats_0 21 rfl rfl)
theorem dX51_eats_24 : decode cX51_eats 24 = .ok (.putfield 83, 3) := dk_181 0 83 (dk_at dksX51_eats_1 0 rfl rfl)
theorem dX51_eats_27 : decode cX51_eats 27 = .ok (.iload_n 3, 1) := dk_29 (dk_at dksX51_eats_1 3 rfl rfl)
theorem dX51_eats_28 : decode cX51_eats 28 = .ok (.ireturn, 1) := dk_172 (dk_at dksX51_eats_1 4 rfl rfl)
abbrev cX51_sees : ByteArray := prog_60_method_8_code
def yX51_sees : MethodName := ⟨RX51, "sees", "(J)Z"⟩
def dkwX51_sees_1 : List UInt8 := [180, 0, 83, 184, 0, 86, 31, 148, 154, 0, 7, 4, 167, 0, 4, 3, 172]
abbrev dktX51_sees_1 : List UInt8 := dkwX51_sees_1 ++ []
def dkwX51_sees_0 : List UInt8 := [42, 180, 0, 83, 42, 180, 0, 74, 162, 0, 31, 42, 180, 0, 7, 42, 180, 0, 23, 42, 180, 0, 26, 42]
abbrev dktX51_sees_0 : List UInt8 := dkwX51_sees_0 ++ dktX51_sees_1
theorem dksX51_sees_0 : cX51_sees.data.toList.drop 0 = dktX51_sees_0 := by decide +kernel
theorem dksX51_sees_1 : cX51_sees.data.toList.drop 24 = dktX51_sees_1 := dk_seg dksX51_sees_0 24 rfl rfl
theorem dX51_sees_0 : decode cX51_sees 0 = .ok (.aload_n 0, 1) := dk_42 (dk_at dksX51_sees_0 0 rfl rfl)
theorem dX51_sees_1 : decode cX51_sees 1 = .ok (.getfield 83, 3) := dk_180 0 83 (dk_at dksX51_sees_0 1 rfl rfl)
theorem dX51_sees_4 : decode cX51_sees 4 = .ok (.aload_n 0, 1) := dk_42 (dk_at dksX51_sees_0 4 rfl rfl)
theorem dX51_sees_5 : decode cX51_sees 5 = .ok (.getfield 74, 3) := dk_180 0 74 (dk_at dksX51_sees_0 5 rfl rfl)
theorem dX51_sees_8 : decode cX51_sees 8 = .ok (.if_icmp .ge 31, 3) := dk_162 0 31 (dk_at dksX51_sees_0 8 rfl rfl)
theorem dX51_sees_11 : decode cX51_sees 11 = .ok (.aload_n 0, 1) := dk_42 (dk_at dksX51_sees_0 11 rfl rfl)
theorem dX51_sees_12 : decode cX51_sees 12 = .ok (.getfield 7, 3) := dk_180 0 7 (dk_at dksX51_sees_0 12 rfl rfl)
theorem dX51_sees_15 : decode cX51_sees 15 = .ok (.aload_n 0, 1) := dk_42 (dk_at dksX51_sees_0 15 rfl rfl)
theorem dX51_sees_16 : decode cX51_sees 16 = .ok (.getfield 23, 3) := dk_180 0 23 (dk_at dksX51_sees_0 16 rfl rfl)
theorem dX51_sees_19 : decode cX51_sees 19 = .ok (.aload_n 0, 1) := dk_42 (dk_at dksX51_sees_0 19 rfl rfl)
theorem dX51_sees_20 : decode cX51_sees 20 = .ok (.getfield 26, 3) := dk_180 0 26 (dk_at dksX51_sees_0 20 rfl rfl)
theorem dX51_sees_23 : decode cX51_sees 23 = .ok (.aload_n 0, 1) := dk_42 (dk_at dksX51_sees_0 23 rfl rfl)
theorem dX51_sees_24 : decode cX51_sees 24 = .ok (.getfield 83, 3) := dk_180 0 83 (dk_at dksX51_sees_1 0 rfl rfl)
theorem dX51_sees_27 : decode cX51_sees 27 = .ok (.invokestatic 86, 3) := dk_184 0 86 (dk_at dksX51_sees_1 3 rfl rfl)
theorem dX51_sees_30 : decode cX51_sees 30 = .ok (.lload_n 1, 1) := dk_31 (dk_at dksX51_sees_1 6 rfl rfl)
theorem dX51_sees_31 : decode cX51_sees 31 = .ok (.lcmp, 1) := dk_148 (dk_at dksX51_sees_1 7 rfl rfl)
theorem dX51_sees_32 : decode cX51_sees 32 = .ok (.ifCond .ne 7, 3) := dk_154 0 7 (dk_at dksX51_sees_1 8 rfl rfl)
theorem dX51_sees_35 : decode cX51_sees 35 = .ok (.iconst 1, 1) := dk_4 (dk_at dksX51_sees_1 11 rfl rfl)
theorem dX51_sees_36 : decode cX51_sees 36 = .ok (.goto 4, 3) := dk_167 0 4 (dk_at dksX51_sees_1 12 rfl rfl)
theorem dX51_sees_39 : decode cX51_sees 39 = .ok (.iconst 0, 1) := dk_3 (dk_at dksX51_sees_1 15 rfl rfl)
theorem dX51_sees_40 : decode cX51_sees 40 = .ok (.ireturn, 1) := dk_172 (dk_at dksX51_sees_1 16 rfl rfl)
abbrev cX51_eatsNumber : ByteArray := prog_60_method_10_code
def yX51_eatsNumber : MethodName := ⟨RX51, "eatsNumber", "(II)Z"⟩
def dkwX51_eatsNumber_3 : List UInt8 := [167, 0, 7, 42, 180, 0, 83, 181, 0, 83, 21, 4, 172]
abbrev dktX51_eatsNumber_3 : List UInt8 := dkwX51_eatsNumber_3 ++ []
def dkwX51_eatsNumber_2 : List UInt8 := [163, 0, 7, 4, 167, 0, 4, 3, 54, 4, 42, 21, 4, 153, 0, 12, 42, 180, 0, 83, 4, 96]
abbrev dktX51_eatsNumber_2 : List UInt8 := dkwX51_eatsNumber_2 ++ dktX51_eatsNumber_3
def dkwX51_eatsNumber_1 : List UInt8 := [180, 0, 83, 184, 0, 94, 167, 0, 4, 2, 62, 29, 155, 0, 17, 29, 27, 161, 0, 12, 29, 28]
abbrev dktX51_eatsNumber_1 : List UInt8 := dkwX51_eatsNumber_1 ++ dktX51_eatsNumber_2
def dkwX51_eatsNumber_0 : List UInt8 := [42, 180, 0, 83, 42, 180, 0, 74, 162, 0, 25, 42, 180, 0, 7, 42, 180, 0, 23, 42, 180, 0, 26, 42]
abbrev dktX51_eatsNumber_0 : List UInt8 := dkwX51_eatsNumber_0 ++ dktX51_eatsNumber_1
theorem dksX51_eatsNumber_0 : cX51_eatsNumber.data.toList.drop 0 = dktX51_eatsNumber_0 := by decide +kernel
theorem dksX51_eatsNumber_1 : cX51_eatsNumber.data.toList.drop 24 = dktX51_eatsNumber_1 := dk_seg dksX51_eatsNumber_0 24 rfl rfl
theorem dksX51_eatsNumber_2 : cX51_eatsNumber.data.toList.drop 46 = dktX51_eatsNumber_2 := dk_seg dksX51_eatsNumber_1 22 rfl rfl
theorem dksX51_eatsNumber_3 : cX51_eatsNumber.data.toList.drop 68 = dktX51_eatsNumber_3 := dk_seg dksX51_eatsNumber_2 22 rfl rfl
theorem dX51_eatsNumber_0 : decode cX51_eatsNumber 0 = .ok (.aload_n 0, 1) := dk_42 (dk_at dksX51_eatsNumber_0 0 rfl rfl)
theorem dX51_eatsNumber_1 : decode cX51_eatsNumber 1 = .ok (.getfield 83, 3) := dk_180 0 83 (dk_at dksX51_eatsNumber_0 1 rfl rfl)
theorem dX51_eatsNumber_4 : decode cX51_eatsNumber 4 = .ok (.aload_n 0, 1) := dk_42 (dk_at dksX51_eatsNumber_0 4 rfl rfl)
theorem dX51_eatsNumber_5 : decode cX51_eatsNumber 5 = .ok (.getfield 74, 3) := dk_180 0 74 (dk_at dksX51_eatsNumber_0 5 rfl rfl)
theorem dX51_eatsNumber_8 : decode cX51_eatsNumber 8 = .ok (.if_icmp .ge 25, 3) := dk_162 0 25 (dk_at dksX51_eatsNumber_0 8 rfl rfl)
theorem dX51_eatsNumber_11 : decode cX51_eatsNumber 11 = .ok (.aload_n 0, 1) := dk_42 (dk_at dksX51_eatsNumber_0 11 rfl rfl)
theorem dX51_eatsNumber_12 : decode cX51_eatsNumber 12 = .ok (.getfield 7, 3) := dk_180 0 7 (dk_at dksX51_eatsNumber_0 12 rfl rfl)
theorem dX51_eatsNumber_15 : decode cX51_eatsNumber 15 = .ok (.aload_n 0, 1) := dk_42 (dk_at dksX51_eatsNumber_0 15 rfl rfl)
theorem dX51_eatsNumber_16 : decode cX51_eatsNumber 16 = .ok (.getfield 23, 3) := dk_180 0 23 (dk_at dksX51_eatsNumber_0 16 rfl rfl)
theorem dX51_eatsNumber_19 : decode cX51_eatsNumber 19 = .ok (.aload_n 0, 1) := dk_42 (dk_at dksX51_eatsNumber_0 19 rfl rfl)
theorem dX51_eatsNumber_20 : decode cX51_eatsNumber 20 = .ok (.getfield 26, 3) := dk_180 0 26 (dk_at dksX51_eatsNumber_0 20 rfl rfl)
theorem dX51_eatsNumber_23 : decode cX51_eatsNumber 23 = .ok (.aload_n 0, 1) := dk_42 (dk_at dksX51_eatsNumber_0 23 rfl rfl)
theorem dX51_eatsNumber_24 : decode cX51_eatsNumber 24 = .ok (.getfield 83, 3) := dk_180 0 83 (dk_at dksX51_eatsNumber_1 0 rfl rfl)
theorem dX51_eatsNumber_27 : decode cX51_eatsNumber 27 = .ok (.invokestatic 94, 3) := dk_184 0 94 (dk_at dksX51_eatsNumber_1 3 rfl rfl)
theorem dX51_eatsNumber_30 : decode cX51_eatsNumber 30 = .ok (.goto 4, 3) := dk_167 0 4 (dk_at dksX51_eatsNumber_1 6 rfl rfl)
theorem dX51_eatsNumber_33 : decode cX51_eatsNumber 33 = .ok (.iconst (-1), 1) := dk_2 (dk_at dksX51_eatsNumber_1 9 rfl rfl)
theorem dX51_eatsNumber_34 : decode cX51_eatsNumber 34 = .ok (.istore_n 3, 1) := dk_62 (dk_at dksX51_eatsNumber_1 10 rfl rfl)
theorem dX51_eatsNumber_35 : decode cX51_eatsNumber 35 = .ok (.iload_n 3, 1) := dk_29 (dk_at dksX51_eatsNumber_1 11 rfl rfl)
theorem dX51_eatsNumber_36 : decode cX51_eatsNumber 36 = .ok (.ifCond .lt 17, 3) := dk_155 0 17 (dk_at dksX51_eatsNumber_1 12 rfl rfl)
theorem dX51_eatsNumber_39 : decode cX51_eatsNumber 39 = .ok (.iload_n 3, 1) := dk_29 (dk_at dksX51_eatsNumber_1 15 rfl rfl)
theorem dX51_eatsNumber_40 : decode cX51_eatsNumber 40 = .ok (.iload_n 1, 1) := dk_27 (dk_at dksX51_eatsNumber_1 16 rfl rfl)
theorem dX51_eatsNumber_41 : decode cX51_eatsNumber 41 = .ok (.if_icmp .lt 12, 3) := dk_161 0 12 (dk_at dksX51_eatsNumber_1 17 rfl rfl)
theorem dX51_eatsNumber_44 : decode cX51_eatsNumber 44 = .ok (.iload_n 3, 1) := dk_29 (dk_at dksX51_eatsNumber_1 20 rfl rfl)
theorem dX51_eatsNumber_45 : decode cX51_eatsNumber 45 = .ok (.iload_n 2, 1) := dk_28 (dk_at dksX51_eatsNumber_1 21 rfl rfl)
theorem dX51_eatsNumber_46 : decode cX51_eatsNumber 46 = .ok (.if_icmp .gt 7, 3) := dk_163 0 7 (dk_at dksX51_eatsNumber_2 0 rfl rfl)
theorem dX51_eatsNumber_49 : decode cX51_eatsNumber 49 = .ok (.iconst 1, 1) := dk_4 (dk_at dksX51_eatsNumber_2 3 rfl rfl)
theorem dX51_eatsNumber_50 : decode cX51_eatsNumber 50 = .ok (.goto 4, 3) := dk_167 0 4 (dk_at dksX51_eatsNumber_2 4 rfl rfl)
theorem dX51_eatsNumber_53 : decode cX51_eatsNumber 53 = .ok (.iconst 0, 1) := dk_3 (dk_at dksX51_eatsNumber_2 7 rfl rfl)
theorem dX51_eatsNumber_54 : decode cX51_eatsNumber 54 = .ok (.istore 4, 2) := dk_54 4 (dk_at dksX51_eatsNumber_2 8 rfl rfl)
theorem dX51_eatsNumber_56 : decode cX51_eatsNumber 56 = .ok (.aload_n 0, 1) := dk_42 (dk_at dksX51_eatsNumber_2 10 rfl rfl)
theorem dX51_eatsNumber_57 : decode cX51_eatsNumber 57 = .ok (.iload 4, 2) := dk_21 4 (dk_at dksX51_eatsNumber_2 11 rfl rfl)
theorem dX51_eatsNumber_59 : decode cX51_eatsNumber 59 = .ok (.ifCond .eq 12, 3) := dk_153 0 12 (dk_at dksX51_eatsNumber_2 13 rfl rfl)
theorem dX51_eatsNumber_62 : decode cX51_eatsNumber 62 = .ok (.aload_n 0, 1) := dk_42 (dk_at dksX51_eatsNumber_2 16 rfl rfl)
theorem dX51_eatsNumber_63 : decode cX51_eatsNumber 63 = .ok (.getfield 83, 3) := dk_180 0 83 (dk_at dksX51_eatsNumber_2 17 rfl rfl)
theorem dX51_eatsNumber_66 : decode cX51_eatsNumber 66 = .ok (.iconst 1, 1) := dk_4 (dk_at dksX51_eatsNumber_2 20 rfl rfl)
theorem dX51_eatsNumber_67 : decode cX51_eatsNumber 67 = .ok (.iadd, 1) := dk_96 (dk_at dksX51_eatsNumber_2 21 rfl rfl)
theorem dX51_eatsNumber_68 : decode cX51_eatsNumber 68 = .ok (.goto 7, 3) := dk_167 0 7 (dk_at dksX51_eatsNumber_3 0 rfl rfl)
theorem dX51_eatsNumber_71 : decode cX51_eatsNumber 71 = .ok (.aload_n 0, 1) := dk_42 (dk_at dksX51_eatsNumber_3 3 rfl rfl)
theorem dX51_eatsNumber_72 : decode cX51_eatsNumber 72 = .ok (.getfield 83, 3) := dk_180 0 83 (dk_at dksX51_eatsNumber_3 4 rfl rfl)
theorem dX51_eatsNumber_75 : decode cX51_eatsNumber 75 = .ok (.putfield 83, 3) := dk_181 0 83 (dk_at dksX51_eatsNumber_3 7 rfl rfl)
theorem dX51_eatsNumber_78 : decode cX51_eatsNumber 78 = .ok (.iload 4, 2) := dk_21 4 (dk_at dksX51_eatsNumber_3 10 rfl rfl)
theorem dX51_eatsNumber_80 : decode cX51_eatsNumber 80 = .ok (.ireturn, 1) := dk_172 (dk_at dksX51_eatsNumber_3 12 rfl rfl)
abbrev cX51_eatsRule : ByteArray := prog_60_method_14_code
def yX51_eatsRule : MethodName := ⟨RX51, "eatsRule", "()Z"⟩
def dkwX51_eatsRule_3 : List UInt8 := [20, 0, 146, 182, 0, 100, 153, 0, 7, 4, 167, 0, 4, 3, 172]
abbrev dktX51_eatsRule_3 : List UInt8 := dkwX51_eatsRule_3 ++ []
def dkwX51_eatsRule_2 : List UInt8 := [20, 0, 144, 182, 0, 100, 153, 0, 11, 42, 182, 0, 141, 60, 167, 255, 237, 27, 153, 0, 17, 42]
abbrev dktX51_eatsRule_2 : List UInt8 := dkwX51_eatsRule_2 ++ dktX51_eatsRule_3
def dkwX51_eatsRule_1 : List UInt8 := [182, 0, 100, 153, 0, 14, 42, 182, 0, 141, 153, 0, 7, 4, 167, 0, 4, 3, 60, 27, 153, 0, 21, 42]
abbrev dktX51_eatsRule_1 : List UInt8 := dkwX51_eatsRule_1 ++ dktX51_eatsRule_2
def dkwX51_eatsRule_0 : List UInt8 := [42, 20, 0, 137, 182, 0, 100, 153, 0, 34, 42, 3, 16, 19, 182, 0, 105, 153, 0, 24, 42, 20, 0, 139]
abbrev dktX51_eatsRule_0 : List UInt8 := dkwX51_eatsRule_0 ++ dktX51_eatsRule_1
theorem dksX51_eatsRule_0 : cX51_eatsRule.data.toList.drop 0 = dktX51_eatsRule_0 := by decide +kernel
theorem dksX51_eatsRule_1 : cX51_eatsRule.data.toList.drop 24 = dktX51_eatsRule_1 := dk_seg dksX51_eatsRule_0 24 rfl rfl
theorem dksX51_eatsRule_2 : cX51_eatsRule.data.toList.drop 48 = dktX51_eatsRule_2 := dk_seg dksX51_eatsRule_1 24 rfl rfl
theorem dksX51_eatsRule_3 : cX51_eatsRule.data.toList.drop 70 = dktX51_eatsRule_3 := dk_seg dksX51_eatsRule_2 22 rfl rfl
theorem dX51_eatsRule_0 : decode cX51_eatsRule 0 = .ok (.aload_n 0, 1) := dk_42 (dk_at dksX51_eatsRule_0 0 rfl rfl)
theorem dX51_eatsRule_1 : decode cX51_eatsRule 1 = .ok (.ldc2_w 137, 3) := dk_20 0 137 (dk_at dksX51_eatsRule_0 1 rfl rfl)
theorem dX51_eatsRule_4 : decode cX51_eatsRule 4 = .ok (.invokevirtual 100, 3) := dk_182 0 100 (dk_at dksX51_eatsRule_0 4 rfl rfl)
theorem dX51_eatsRule_7 : decode cX51_eatsRule 7 = .ok (.ifCond .eq 34, 3) := dk_153 0 34 (dk_at dksX51_eatsRule_0 7 rfl rfl)
theorem dX51_eatsRule_10 : decode cX51_eatsRule 10 = .ok (.aload_n 0, 1) := dk_42 (dk_at dksX51_eatsRule_0 10 rfl rfl)
theorem dX51_eatsRule_11 : decode cX51_eatsRule 11 = .ok (.iconst 0, 1) := dk_3 (dk_at dksX51_eatsRule_0 11 rfl rfl)
theorem dX51_eatsRule_12 : decode cX51_eatsRule 12 = .ok (.bipush 19, 2) := dk_16 19 (dk_at dksX51_eatsRule_0 12 rfl rfl)
theorem dX51_eatsRule_14 : decode cX51_eatsRule 14 = .ok (.invokevirtual 105, 3) := dk_182 0 105 (dk_at dksX51_eatsRule_0 14 rfl rfl)
theorem dX51_eatsRule_17 : decode cX51_eatsRule 17 = .ok (.ifCond .eq 24, 3) := dk_153 0 24 (dk_at dksX51_eatsRule_0 17 rfl rfl)
theorem dX51_eatsRule_20 : decode cX51_eatsRule 20 = .ok (.aload_n 0, 1) := dk_42 (dk_at dksX51_eatsRule_0 20 rfl rfl)
theorem dX51_eatsRule_21 : decode cX51_eatsRule 21 = .ok (.ldc2_w 139, 3) := dk_20 0 139 (dk_at dksX51_eatsRule_0 21 rfl rfl)
theorem dX51_eatsRule_24 : decode cX51_eatsRule 24 = .ok (.invokevirtual 100, 3) := dk_182 0 100 (dk_at dksX51_eatsRule_1 0 rfl rfl)
theorem dX51_eatsRule_27 : decode cX51_eatsRule 27 = .ok (.ifCond .eq 14, 3) := dk_153 0 14 (dk_at dksX51_eatsRule_1 3 rfl rfl)
theorem dX51_eatsRule_30 : decode cX51_eatsRule 30 = .ok (.aload_n 0, 1) := dk_42 (dk_at dksX51_eatsRule_1 6 rfl rfl)
theorem dX51_eatsRule_31 : decode cX51_eatsRule 31 = .ok (.invokevirtual 141, 3) := dk_182 0 141 (dk_at dksX51_eatsRule_1 7 rfl rfl)
theorem dX51_eatsRule_34 : decode cX51_eatsRule 34 = .ok (.ifCond .eq 7, 3) := dk_153 0 7 (dk_at dksX51_eatsRule_1 10 rfl rfl)
theorem dX51_eatsRule_37 : decode cX51_eatsRule 37 = .ok (.iconst 1, 1) := dk_4 (dk_at dksX51_eatsRule_1 13 rfl rfl)
theorem dX51_eatsRule_38 : decode cX51_eatsRule 38 = .ok (.goto 4, 3) := dk_167 0 4 (dk_at dksX51_eatsRule_1 14 rfl rfl)
theorem dX51_eatsRule_41 : decode cX51_eatsRule 41 = .ok (.iconst 0, 1) := dk_3 (dk_at dksX51_eatsRule_1 17 rfl rfl)
theorem dX51_eatsRule_42 : decode cX51_eatsRule 42 = .ok (.istore_n 1, 1) := dk_60 (dk_at dksX51_eatsRule_1 18 rfl rfl)
theorem dX51_eatsRule_43 : decode cX51_eatsRule 43 = .ok (.iload_n 1, 1) := dk_27 (dk_at dksX51_eatsRule_1 19 rfl rfl)
theorem dX51_eatsRule_44 : decode cX51_eatsRule 44 = .ok (.ifCond .eq 21, 3) := dk_153 0 21 (dk_at dksX51_eatsRule_1 20 rfl rfl)
theorem dX51_eatsRule_47 : decode cX51_eatsRule 47 = .ok (.aload_n 0, 1) := dk_42 (dk_at dksX51_eatsRule_1 23 rfl rfl)
theorem dX51_eatsRule_48 : decode cX51_eatsRule 48 = .ok (.ldc2_w 144, 3) := dk_20 0 144 (dk_at dksX51_eatsRule_2 0 rfl rfl)
theorem dX51_eatsRule_51 : decode cX51_eatsRule 51 = .ok (.invokevirtual 100, 3) := dk_182 0 100 (dk_at dksX51_eatsRule_2 3 rfl rfl)
theorem dX51_eatsRule_54 : decode cX51_eatsRule 54 = .ok (.ifCond .eq 11, 3) := dk_153 0 11 (dk_at dksX51_eatsRule_2 6 rfl rfl)
theorem dX51_eatsRule_57 : decode cX51_eatsRule 57 = .ok (.aload_n 0, 1) := dk_42 (dk_at dksX51_eatsRule_2 9 rfl rfl)
theorem dX51_eatsRule_58 : decode cX51_eatsRule 58 = .ok (.invokevirtual 141, 3) := dk_182 0 141 (dk_at dksX51_eatsRule_2 10 rfl rfl)
theorem dX51_eatsRule_61 : decode cX51_eatsRule 61 = .ok (.istore_n 1, 1) := dk_60 (dk_at dksX51_eatsRule_2 13 rfl rfl)
theorem dX51_eatsRule_62 : decode cX51_eatsRule 62 = .ok (.goto (-19), 3) := dk_167 255 237 (dk_at dksX51_eatsRule_2 14 rfl rfl)
theorem dX51_eatsRule_65 : decode cX51_eatsRule 65 = .ok (.iload_n 1, 1) := dk_27 (dk_at dksX51_eatsRule_2 17 rfl rfl)
theorem dX51_eatsRule_66 : decode cX51_eatsRule 66 = .ok (.ifCond .eq 17, 3) := dk_153 0 17 (dk_at dksX51_eatsRule_2 18 rfl rfl)
theorem dX51_eatsRule_69 : decode cX51_eatsRule 69 = .ok (.aload_n 0, 1) := dk_42 (dk_at dksX51_eatsRule_2 21 rfl rfl)
theorem dX51_eatsRule_70 : decode cX51_eatsRule 70 = .ok (.ldc2_w 146, 3) := dk_20 0 146 (dk_at dksX51_eatsRule_3 0 rfl rfl)
theorem dX51_eatsRule_73 : decode cX51_eatsRule 73 = .ok (.invokevirtual 100, 3) := dk_182 0 100 (dk_at dksX51_eatsRule_3 3 rfl rfl)
theorem dX51_eatsRule_76 : decode cX51_eatsRule 76 = .ok (.ifCond .eq 7, 3) := dk_153 0 7 (dk_at dksX51_eatsRule_3 6 rfl rfl)
theorem dX51_eatsRule_79 : decode cX51_eatsRule 79 = .ok (.iconst 1, 1) := dk_4 (dk_at dksX51_eatsRule_3 9 rfl rfl)
theorem dX51_eatsRule_80 : decode cX51_eatsRule 80 = .ok (.goto 4, 3) := dk_167 0 4 (dk_at dksX51_eatsRule_3 10 rfl rfl)
theorem dX51_eatsRule_83 : decode cX51_eatsRule 83 = .ok (.iconst 0, 1) := dk_3 (dk_at dksX51_eatsRule_3 13 rfl rfl)
theorem dX51_eatsRule_84 : decode cX51_eatsRule 84 = .ok (.ireturn, 1) := dk_172 (dk_at dksX51_eatsRule_3 14 rfl rfl)
abbrev cX51_eatsItem : ByteArray := prog_60_method_13_code
def yX51_eatsItem : MethodName := ⟨RX51, "eatsItem", "()Z"⟩
def dkwX51_eatsItem_4 : List UInt8 := [167, 0, 4, 3, 172]
abbrev dktX51_eatsItem_4 : List UInt8 := dkwX51_eatsItem_4 ++ []
def dkwX51_eatsItem_3 : List UInt8 := [182, 0, 105, 172, 42, 20, 0, 132, 182, 0, 100, 153, 0, 14, 42, 182, 0, 134, 153, 0, 7, 4]
abbrev dktX51_eatsItem_3 : List UInt8 := dkwX51_eatsItem_3 ++ dktX51_eatsItem_4
def dkwX51_eatsItem_2 : List UInt8 := [153, 0, 7, 4, 167, 0, 4, 3, 172, 42, 20, 0, 130, 182, 0, 100, 153, 0, 11, 42, 3, 16, 19]
abbrev dktX51_eatsItem_2 : List UInt8 := dkwX51_eatsItem_2 ++ dktX51_eatsItem_3
def dkwX51_eatsItem_1 : List UInt8 := [182, 0, 100, 154, 0, 13, 42, 20, 0, 128, 182, 0, 100, 153, 0, 17, 42, 3, 16, 9, 182, 0, 105]
abbrev dktX51_eatsItem_1 : List UInt8 := dkwX51_eatsItem_1 ++ dktX51_eatsItem_2
def dkwX51_eatsItem_0 : List UInt8 := [42, 20, 0, 124, 182, 0, 100, 153, 0, 49, 42, 3, 16, 7, 182, 0, 105, 153, 0, 37, 42, 20, 0, 126]
abbrev dktX51_eatsItem_0 : List UInt8 := dkwX51_eatsItem_0 ++ dktX51_eatsItem_1
theorem dksX51_eatsItem_0 : cX51_eatsItem.data.toList.drop 0 = dktX51_eatsItem_0 := by decide +kernel
theorem dksX51_eatsItem_1 : cX51_eatsItem.data.toList.drop 24 = dktX51_eatsItem_1 := dk_seg dksX51_eatsItem_0 24 rfl rfl
theorem dksX51_eatsItem_2 : cX51_eatsItem.data.toList.drop 47 = dktX51_eatsItem_2 := dk_seg dksX51_eatsItem_1 23 rfl rfl
theorem dksX51_eatsItem_3 : cX51_eatsItem.data.toList.drop 70 = dktX51_eatsItem_3 := dk_seg dksX51_eatsItem_2 23 rfl rfl
theorem dksX51_eatsItem_4 : cX51_eatsItem.data.toList.drop 92 = dktX51_eatsItem_4 := dk_seg dksX51_eatsItem_3 22 rfl rfl
theorem dX51_eatsItem_0 : decode cX51_eatsItem 0 = .ok (.aload_n 0, 1) := dk_42 (dk_at dksX51_eatsItem_0 0 rfl rfl)
theorem dX51_eatsItem_1 : decode cX51_eatsItem 1 = .ok (.ldc2_w 124, 3) := dk_20 0 124 (dk_at dksX51_eatsItem_0 1 rfl rfl)
theorem dX51_eatsItem_4 : decode cX51_eatsItem 4 = .ok (.invokevirtual 100, 3) := dk_182 0 100 (dk_at dksX51_eatsItem_0 4 rfl rfl)
theorem dX51_eatsItem_7 : decode cX51_eatsItem 7 = .ok (.ifCond .eq 49, 3) := dk_153 0 49 (dk_at dksX51_eatsItem_0 7 rfl rfl)
theorem dX51_eatsItem_10 : decode cX51_eatsItem 10 = .ok (.aload_n 0, 1) := dk_42 (dk_at dksX51_eatsItem_0 10 rfl rfl)
theorem dX51_eatsItem_11 : decode cX51_eatsItem 11 = .ok (.iconst 0, 1) := dk_3 (dk_at dksX51_eatsItem_0 11 rfl rfl)
theorem dX51_eatsItem_12 : decode cX51_eatsItem 12 = .ok (.bipush 7, 2) := dk_16 7 (dk_at dksX51_eatsItem_0 12 rfl rfl)
theorem dX51_eatsItem_14 : decode cX51_eatsItem 14 = .ok (.invokevirtual 105, 3) := dk_182 0 105 (dk_at dksX51_eatsItem_0 14 rfl rfl)
theorem dX51_eatsItem_17 : decode cX51_eatsItem 17 = .ok (.ifCond .eq 37, 3) := dk_153 0 37 (dk_at dksX51_eatsItem_0 17 rfl rfl)
theorem dX51_eatsItem_20 : decode cX51_eatsItem 20 = .ok (.aload_n 0, 1) := dk_42 (dk_at dksX51_eatsItem_0 20 rfl rfl)
theorem dX51_eatsItem_21 : decode cX51_eatsItem 21 = .ok (.ldc2_w 126, 3) := dk_20 0 126 (dk_at dksX51_eatsItem_0 21 rfl rfl)
theorem dX51_eatsItem_24 : decode cX51_eatsItem 24 = .ok (.invokevirtual 100, 3) := dk_182 0 100 (dk_at dksX51_eatsItem_1 0 rfl rfl)
theorem dX51_eatsItem_27 : decode cX51_eatsItem 27 = .ok (.ifCond .ne 13, 3) := dk_154 0 13 (dk_at dksX51_eatsItem_1 3 rfl rfl)
theorem dX51_eatsItem_30 : decode cX51_eatsItem 30 = .ok (.aload_n 0, 1) := dk_42 (dk_at dksX51_eatsItem_1 6 rfl rfl)
theorem dX51_eatsItem_31 : decode cX51_eatsItem 31 = .ok (.ldc2_w 128, 3) := dk_20 0 128 (dk_at dksX51_eatsItem_1 7 rfl rfl)
theorem dX51_eatsItem_34 : decode cX51_eatsItem 34 = .ok (.invokevirtual 100, 3) := dk_182 0 100 (dk_at dksX51_eatsItem_1 10 rfl rfl)
theorem dX51_eatsItem_37 : decode cX51_eatsItem 37 = .ok (.ifCond .eq 17, 3) := dk_153 0 17 (dk_at dksX51_eatsItem_1 13 rfl rfl)
theorem dX51_eatsItem_40 : decode cX51_eatsItem 40 = .ok (.aload_n 0, 1) := dk_42 (dk_at dksX51_eatsItem_1 16 rfl rfl)
theorem dX51_eatsItem_41 : decode cX51_eatsItem 41 = .ok (.iconst 0, 1) := dk_3 (dk_at dksX51_eatsItem_1 17 rfl rfl)
theorem dX51_eatsItem_42 : decode cX51_eatsItem 42 = .ok (.bipush 9, 2) := dk_16 9 (dk_at dksX51_eatsItem_1 18 rfl rfl)
theorem dX51_eatsItem_44 : decode cX51_eatsItem 44 = .ok (.invokevirtual 105, 3) := dk_182 0 105 (dk_at dksX51_eatsItem_1 20 rfl rfl)
theorem dX51_eatsItem_47 : decode cX51_eatsItem 47 = .ok (.ifCond .eq 7, 3) := dk_153 0 7 (dk_at dksX51_eatsItem_2 0 rfl rfl)
theorem dX51_eatsItem_50 : decode cX51_eatsItem 50 = .ok (.iconst 1, 1) := dk_4 (dk_at dksX51_eatsItem_2 3 rfl rfl)
theorem dX51_eatsItem_51 : decode cX51_eatsItem 51 = .ok (.goto 4, 3) := dk_167 0 4 (dk_at dksX51_eatsItem_2 4 rfl rfl)
theorem dX51_eatsItem_54 : decode cX51_eatsItem 54 = .ok (.iconst 0, 1) := dk_3 (dk_at dksX51_eatsItem_2 7 rfl rfl)
theorem dX51_eatsItem_55 : decode cX51_eatsItem 55 = .ok (.ireturn, 1) := dk_172 (dk_at dksX51_eatsItem_2 8 rfl rfl)
theorem dX51_eatsItem_56 : decode cX51_eatsItem 56 = .ok (.aload_n 0, 1) := dk_42 (dk_at dksX51_eatsItem_2 9 rfl rfl)
theorem dX51_eatsItem_57 : decode cX51_eatsItem 57 = .ok (.ldc2_w 130, 3) := dk_20 0 130 (dk_at dksX51_eatsItem_2 10 rfl rfl)
theorem dX51_eatsItem_60 : decode cX51_eatsItem 60 = .ok (.invokevirtual 100, 3) := dk_182 0 100 (dk_at dksX51_eatsItem_2 13 rfl rfl)
theorem dX51_eatsItem_63 : decode cX51_eatsItem 63 = .ok (.ifCond .eq 11, 3) := dk_153 0 11 (dk_at dksX51_eatsItem_2 16 rfl rfl)
theorem dX51_eatsItem_66 : decode cX51_eatsItem 66 = .ok (.aload_n 0, 1) := dk_42 (dk_at dksX51_eatsItem_2 19 rfl rfl)
theorem dX51_eatsItem_67 : decode cX51_eatsItem 67 = .ok (.iconst 0, 1) := dk_3 (dk_at dksX51_eatsItem_2 20 rfl rfl)
theorem dX51_eatsItem_68 : decode cX51_eatsItem 68 = .ok (.bipush 19, 2) := dk_16 19 (dk_at dksX51_eatsItem_2 21 rfl rfl)
theorem dX51_eatsItem_70 : decode cX51_eatsItem 70 = .ok (.invokevirtual 105, 3) := dk_182 0 105 (dk_at dksX51_eatsItem_3 0 rfl rfl)
theorem dX51_eatsItem_73 : decode cX51_eatsItem 73 = .ok (.ireturn, 1) := dk_172 (dk_at dksX51_eatsItem_3 3 rfl rfl)
theorem dX51_eatsItem_74 : decode cX51_eatsItem 74 = .ok (.aload_n 0, 1) := dk_42 (dk_at dksX51_eatsItem_3 4 rfl rfl)
theorem dX51_eatsItem_75 : decode cX51_eatsItem 75 = .ok (.ldc2_w 132, 3) := dk_20 0 132 (dk_at dksX51_eatsItem_3 5 rfl rfl)
theorem dX51_eatsItem_78 : decode cX51_eatsItem 78 = .ok (.invokevirtual 100, 3) := dk_182 0 100 (dk_at dksX51_eatsItem_3 8 rfl rfl)
theorem dX51_eatsItem_81 : decode cX51_eatsItem 81 = .ok (.ifCond .eq 14, 3) := dk_153 0 14 (dk_at dksX51_eatsItem_3 11 rfl rfl)
theorem dX51_eatsItem_84 : decode cX51_eatsItem 84 = .ok (.aload_n 0, 1) := dk_42 (dk_at dksX51_eatsItem_3 14 rfl rfl)
theorem dX51_eatsItem_85 : decode cX51_eatsItem 85 = .ok (.invokevirtual 134, 3) := dk_182 0 134 (dk_at dksX51_eatsItem_3 15 rfl rfl)
theorem dX51_eatsItem_88 : decode cX51_eatsItem 88 = .ok (.ifCond .eq 7, 3) := dk_153 0 7 (dk_at dksX51_eatsItem_3 18 rfl rfl)
theorem dX51_eatsItem_91 : decode cX51_eatsItem 91 = .ok (.iconst 1, 1) := dk_4 (dk_at dksX51_eatsItem_3 21 rfl rfl)
theorem dX51_eatsItem_92 : decode cX51_eatsItem 92 = .ok (.goto 4, 3) := dk_167 0 4 (dk_at dksX51_eatsItem_4 0 rfl rfl)
theorem dX51_eatsItem_95 : decode cX51_eatsItem 95 = .ok (.iconst 0, 1) := dk_3 (dk_at dksX51_eatsItem_4 3 rfl rfl)
theorem dX51_eatsItem_96 : decode cX51_eatsItem 96 = .ok (.ireturn, 1) := dk_172 (dk_at dksX51_eatsItem_4 4 rfl rfl)
abbrev cX51_eatsSum : ByteArray := prog_60_method_12_code
def yX51_eatsSum : MethodName := ⟨RX51, "eatsSum", "()Z"⟩
def dkwX51_eatsSum_3 : List UInt8 := [153, 0, 7, 4, 167, 0, 4, 3, 172]
abbrev dktX51_eatsSum_3 : List UInt8 := dkwX51_eatsSum_3 ++ []
def dkwX51_eatsSum_2 : List UInt8 := [182, 0, 100, 154, 0, 13, 42, 20, 0, 122, 182, 0, 100, 153, 0, 17, 42, 3, 18, 113, 182, 0, 105]
abbrev dktX51_eatsSum_2 : List UInt8 := dkwX51_eatsSum_2 ++ dktX51_eatsSum_3
def dkwX51_eatsSum_1 : List UInt8 := [182, 0, 90, 153, 0, 11, 42, 182, 0, 116, 60, 167, 255, 227, 27, 153, 0, 37, 42, 20, 0, 120]
abbrev dktX51_eatsSum_1 : List UInt8 := dkwX51_eatsSum_1 ++ dktX51_eatsSum_2
def dkwX51_eatsSum_0 : List UInt8 := [42, 182, 0, 116, 60, 27, 153, 0, 31, 42, 20, 0, 98, 182, 0, 90, 154, 0, 13, 42, 20, 0, 103]
abbrev dktX51_eatsSum_0 : List UInt8 := dkwX51_eatsSum_0 ++ dktX51_eatsSum_1
theorem dksX51_eatsSum_0 : cX51_eatsSum.data.toList.drop 0 = dktX51_eatsSum_0 := by decide +kernel
theorem dksX51_eatsSum_1 : cX51_eatsSum.data.toList.drop 23 = dktX51_eatsSum_1 := dk_seg dksX51_eatsSum_0 23 rfl rfl
theorem dksX51_eatsSum_2 : cX51_eatsSum.data.toList.drop 45 = dktX51_eatsSum_2 := dk_seg dksX51_eatsSum_1 22 rfl rfl
theorem dksX51_eatsSum_3 : cX51_eatsSum.data.toList.drop 68 = dktX51_eatsSum_3 := dk_seg dksX51_eatsSum_2 23 rfl rfl
theorem dX51_eatsSum_0 : decode cX51_eatsSum 0 = .ok (.aload_n 0, 1) := dk_42 (dk_at dksX51_eatsSum_0 0 rfl rfl)
theorem dX51_eatsSum_1 : decode cX51_eatsSum 1 = .ok (.invokevirtual 116, 3) := dk_182 0 116 (dk_at dksX51_eatsSum_0 1 rfl rfl)
theorem dX51_eatsSum_4 : decode cX51_eatsSum 4 = .ok (.istore_n 1, 1) := dk_60 (dk_at dksX51_eatsSum_0 4 rfl rfl)
theorem dX51_eatsSum_5 : decode cX51_eatsSum 5 = .ok (.iload_n 1, 1) := dk_27 (dk_at dksX51_eatsSum_0 5 rfl rfl)
theorem dX51_eatsSum_6 : decode cX51_eatsSum 6 = .ok (.ifCond .eq 31, 3) := dk_153 0 31 (dk_at dksX51_eatsSum_0 6 rfl rfl)
theorem dX51_eatsSum_9 : decode cX51_eatsSum 9 = .ok (.aload_n 0, 1) := dk_42 (dk_at dksX51_eatsSum_0 9 rfl rfl)
theorem dX51_eatsSum_10 : decode cX51_eatsSum 10 = .ok (.ldc2_w 98, 3) := dk_20 0 98 (dk_at dksX51_eatsSum_0 10 rfl rfl)
theorem dX51_eatsSum_13 : decode cX51_eatsSum 13 = .ok (.invokevirtual 90, 3) := dk_182 0 90 (dk_at dksX51_eatsSum_0 13 rfl rfl)
theorem dX51_eatsSum_16 : decode cX51_eatsSum 16 = .ok (.ifCond .ne 13, 3) := dk_154 0 13 (dk_at dksX51_eatsSum_0 16 rfl rfl)
theorem dX51_eatsSum_19 : decode cX51_eatsSum 19 = .ok (.aload_n 0, 1) := dk_42 (dk_at dksX51_eatsSum_0 19 rfl rfl)
theorem dX51_eatsSum_20 : decode cX51_eatsSum 20 = .ok (.ldc2_w 103, 3) := dk_20 0 103 (dk_at dksX51_eatsSum_0 20 rfl rfl)
theorem dX51_eatsSum_23 : decode cX51_eatsSum 23 = .ok (.invokevirtual 90, 3) := dk_182 0 90 (dk_at dksX51_eatsSum_1 0 rfl rfl)
theorem dX51_eatsSum_26 : decode cX51_eatsSum 26 = .ok (.ifCond .eq 11, 3) := dk_153 0 11 (dk_at dksX51_eatsSum_1 3 rfl rfl)
theorem dX51_eatsSum_29 : decode cX51_eatsSum 29 = .ok (.aload_n 0, 1) := dk_42 (dk_at dksX51_eatsSum_1 6 rfl rfl)
theorem dX51_eatsSum_30 : decode cX51_eatsSum 30 = .ok (.invokevirtual 116, 3) := dk_182 0 116 (dk_at dksX51_eatsSum_1 7 rfl rfl)
theorem dX51_eatsSum_33 : decode cX51_eatsSum 33 = .ok (.istore_n 1, 1) := dk_60 (dk_at dksX51_eatsSum_1 10 rfl rfl)
theorem dX51_eatsSum_34 : decode cX51_eatsSum 34 = .ok (.goto (-29), 3) := dk_167 255 227 (dk_at dksX51_eatsSum_1 11 rfl rfl)
theorem dX51_eatsSum_37 : decode cX51_eatsSum 37 = .ok (.iload_n 1, 1) := dk_27 (dk_at dksX51_eatsSum_1 14 rfl rfl)
theorem dX51_eatsSum_38 : decode cX51_eatsSum 38 = .ok (.ifCond .eq 37, 3) := dk_153 0 37 (dk_at dksX51_eatsSum_1 15 rfl rfl)
theorem dX51_eatsSum_41 : decode cX51_eatsSum 41 = .ok (.aload_n 0, 1) := dk_42 (dk_at dksX51_eatsSum_1 18 rfl rfl)
theorem dX51_eatsSum_42 : decode cX51_eatsSum 42 = .ok (.ldc2_w 120, 3) := dk_20 0 120 (dk_at dksX51_eatsSum_1 19 rfl rfl)
theorem dX51_eatsSum_45 : decode cX51_eatsSum 45 = .ok (.invokevirtual 100, 3) := dk_182 0 100 (dk_at dksX51_eatsSum_2 0 rfl rfl)
theorem dX51_eatsSum_48 : decode cX51_eatsSum 48 = .ok (.ifCond .ne 13, 3) := dk_154 0 13 (dk_at dksX51_eatsSum_2 3 rfl rfl)
theorem dX51_eatsSum_51 : decode cX51_eatsSum 51 = .ok (.aload_n 0, 1) := dk_42 (dk_at dksX51_eatsSum_2 6 rfl rfl)
theorem dX51_eatsSum_52 : decode cX51_eatsSum 52 = .ok (.ldc2_w 122, 3) := dk_20 0 122 (dk_at dksX51_eatsSum_2 7 rfl rfl)
theorem dX51_eatsSum_55 : decode cX51_eatsSum 55 = .ok (.invokevirtual 100, 3) := dk_182 0 100 (dk_at dksX51_eatsSum_2 10 rfl rfl)
theorem dX51_eatsSum_58 : decode cX51_eatsSum 58 = .ok (.ifCond .eq 17, 3) := dk_153 0 17 (dk_at dksX51_eatsSum_2 13 rfl rfl)
theorem dX51_eatsSum_61 : decode cX51_eatsSum 61 = .ok (.aload_n 0, 1) := dk_42 (dk_at dksX51_eatsSum_2 16 rfl rfl)
theorem dX51_eatsSum_62 : decode cX51_eatsSum 62 = .ok (.iconst 0, 1) := dk_3 (dk_at dksX51_eatsSum_2 17 rfl rfl)
theorem dX51_eatsSum_63 : decode cX51_eatsSum 63 = .ok (.ldc 113, 2) := dk_18 113 (dk_at dksX51_eatsSum_2 18 rfl rfl)
theorem dX51_eatsSum_65 : decode cX51_eatsSum 65 = .ok (.invokevirtual 105, 3) := dk_182 0 105 (dk_at dksX51_eatsSum_2 20 rfl rfl)
theorem dX51_eatsSum_68 : decode cX51_eatsSum 68 = .ok (.ifCond .eq 7, 3) := dk_153 0 7 (dk_at dksX51_eatsSum_3 0 rfl rfl)
theorem dX51_eatsSum_71 : decode cX51_eatsSum 71 = .ok (.iconst 1, 1) := dk_4 (dk_at dksX51_eatsSum_3 3 rfl rfl)
theorem dX51_eatsSum_72 : decode cX51_eatsSum 72 = .ok (.goto 4, 3) := dk_167 0 4 (dk_at dksX51_eatsSum_3 4 rfl rfl)
theorem dX51_eatsSum_75 : decode cX51_eatsSum 75 = .ok (.iconst 0, 1) := dk_3 (dk_at dksX51_eatsSum_3 7 rfl rfl)
theorem dX51_eatsSum_76 : decode cX51_eatsSum 76 = .ok (.ireturn, 1) := dk_172 (dk_at dksX51_eatsSum_3 8 rfl rfl)
abbrev cX51_eatsTerm : ByteArray := prog_60_method_11_code
def yX51_eatsTerm : MethodName := ⟨RX51, "eatsTerm", "()Z"⟩
def dkwX51_eatsTerm_4 : List UInt8 := [153, 0, 12, 42, 3, 17, 3, 231, 182, 0, 105, 60, 27, 172]
abbrev dktX51_eatsTerm_4 : List UInt8 := dkwX51_eatsTerm_4 ++ []
def dkwX51_eatsTerm_3 : List UInt8 := [153, 0, 11, 42, 3, 18, 113, 182, 0, 105, 60, 27, 153, 0, 22, 42, 20, 0, 114, 182, 0, 100]
abbrev dktX51_eatsTerm_3 : List UInt8 := dkwX51_eatsTerm_3 ++ dktX51_eatsTerm_4
def dkwX51_eatsTerm_2 : List UInt8 := [182, 0, 105, 153, 0, 7, 4, 167, 0, 4, 3, 60, 27, 153, 0, 21, 42, 20, 0, 111, 182, 0, 100]
abbrev dktX51_eatsTerm_2 : List UInt8 := dkwX51_eatsTerm_2 ++ dktX51_eatsTerm_3
def dkwX51_eatsTerm_1 : List UInt8 := [17, 3, 232, 182, 0, 105, 153, 0, 27, 42, 20, 0, 109, 182, 0, 100, 153, 0, 17, 42, 3, 16, 15]
abbrev dktX51_eatsTerm_1 : List UInt8 := dkwX51_eatsTerm_1 ++ dktX51_eatsTerm_2
def dkwX51_eatsTerm_0 : List UInt8 := [42, 20, 0, 98, 182, 0, 100, 154, 0, 15, 42, 20, 0, 103, 182, 0, 100, 154, 0, 5, 3, 172, 42, 3]
abbrev dktX51_eatsTerm_0 : List UInt8 := dkwX51_eatsTerm_0 ++ dktX51_eatsTerm_1
theorem dksX51_eatsTerm_0 : cX51_eatsTerm.data.toList.drop 0 = dktX51_eatsTerm_0 := by decide +kernel
theorem dksX51_eatsTerm_1 : cX51_eatsTerm.data.toList.drop 24 = dktX51_eatsTerm_1 := dk_seg dksX51_eatsTerm_0 24 rfl rfl
theorem dksX51_eatsTerm_2 : cX51_eatsTerm.data.toList.drop 47 = dktX51_eatsTerm_2 := dk_seg dksX51_eatsTerm_1 23 rfl rfl
theorem dksX51_eatsTerm_3 : cX51_eatsTerm.data.toList.drop 70 = dktX51_eatsTerm_3 := dk_seg dksX51_eatsTerm_2 23 rfl rfl
theorem dksX51_eatsTerm_4 : cX51_eatsTerm.data.toList.drop 92 = dktX51_eatsTerm_4 := dk_seg dksX51_eatsTerm_3 22 rfl rfl
theorem dX51_eatsTerm_0 : decode cX51_eatsTerm 0 = .ok (.aload_n 0, 1) := dk_42 (dk_at dksX51_eatsTerm_0 0 rfl rfl)
theorem dX51_eatsTerm_1 : decode cX51_eatsTerm 1 = .ok (.ldc2_w 98, 3) := dk_20 0 98 (dk_at dksX51_eatsTerm_0 1 rfl rfl)
theorem dX51_eatsTerm_4 : decode cX51_eatsTerm 4 = .ok (.invokevirtual 100, 3) := dk_182 0 100 (dk_at dksX51_eatsTerm_0 4 rfl rfl)
theorem dX51_eatsTerm_7 : decode cX51_eatsTerm 7 = .ok (.ifCond .ne 15, 3) := dk_154 0 15 (dk_at dksX51_eatsTerm_0 7 rfl rfl)
theorem dX51_eatsTerm_10 : decode cX51_eatsTerm 10 = .ok (.aload_n 0, 1) := dk_42 (dk_at dksX51_eatsTerm_0 10 rfl rfl)
theorem dX51_eatsTerm_11 : decode cX51_eatsTerm 11 = .ok (.ldc2_w 103, 3) := dk_20 0 103 (dk_at dksX51_eatsTerm_0 11 rfl rfl)
theorem dX51_eatsTerm_14 : decode cX51_eatsTerm 14 = .ok (.invokevirtual 100, 3) := dk_182 0 100 (dk_at dksX51_eatsTerm_0 14 rfl rfl)
theorem dX51_eatsTerm_17 : decode cX51_eatsTerm 17 = .ok (.ifCond .ne 5, 3) := dk_154 0 5 (dk_at dksX51_eatsTerm_0 17 rfl rfl)
theorem dX51_eatsTerm_20 : decode cX51_eatsTerm 20 = .ok (.iconst 0, 1) := dk_3 (dk_at dksX51_eatsTerm_0 20 rfl rfl)
theorem dX51_eatsTerm_21 : decode cX51_eatsTerm 21 = .ok (.ireturn, 1) := dk_172 (dk_at dksX51_eatsTerm_0 21 rfl rfl)
theorem dX51_eatsTerm_22 : decode cX51_eatsTerm 22 = .ok (.aload_n 0, 1) := dk_42 (dk_at dksX51_eatsTerm_0 22 rfl rfl)
theorem dX51_eatsTerm_23 : decode cX51_eatsTerm 23 = .ok (.iconst 0, 1) := dk_3 (dk_at dksX51_eatsTerm_0 23 rfl rfl)
theorem dX51_eatsTerm_24 : decode cX51_eatsTerm 24 = .ok (.sipush 1000, 3) := dk_17 3 232 (dk_at dksX51_eatsTerm_1 0 rfl rfl)
theorem dX51_eatsTerm_27 : decode cX51_eatsTerm 27 = .ok (.invokevirtual 105, 3) := dk_182 0 105 (dk_at dksX51_eatsTerm_1 3 rfl rfl)
theorem dX51_eatsTerm_30 : decode cX51_eatsTerm 30 = .ok (.ifCond .eq 27, 3) := dk_153 0 27 (dk_at dksX51_eatsTerm_1 6 rfl rfl)
theorem dX51_eatsTerm_33 : decode cX51_eatsTerm 33 = .ok (.aload_n 0, 1) := dk_42 (dk_at dksX51_eatsTerm_1 9 rfl rfl)
theorem dX51_eatsTerm_34 : decode cX51_eatsTerm 34 = .ok (.ldc2_w 109, 3) := dk_20 0 109 (dk_at dksX51_eatsTerm_1 10 rfl rfl)
theorem dX51_eatsTerm_37 : decode cX51_eatsTerm 37 = .ok (.invokevirtual 100, 3) := dk_182 0 100 (dk_at dksX51_eatsTerm_1 13 rfl rfl)
theorem dX51_eatsTerm_40 : decode cX51_eatsTerm 40 = .ok (.ifCond .eq 17, 3) := dk_153 0 17 (dk_at dksX51_eatsTerm_1 16 rfl rfl)
theorem dX51_eatsTerm_43 : decode cX51_eatsTerm 43 = .ok (.aload_n 0, 1) := dk_42 (dk_at dksX51_eatsTerm_1 19 rfl rfl)
theorem dX51_eatsTerm_44 : decode cX51_eatsTerm 44 = .ok (.iconst 0, 1) := dk_3 (dk_at dksX51_eatsTerm_1 20 rfl rfl)
theorem dX51_eatsTerm_45 : decode cX51_eatsTerm 45 = .ok (.bipush 15, 2) := dk_16 15 (dk_at dksX51_eatsTerm_1 21 rfl rfl)
theorem dX51_eatsTerm_47 : decode cX51_eatsTerm 47 = .ok (.invokevirtual 105, 3) := dk_182 0 105 (dk_at dksX51_eatsTerm_2 0 rfl rfl)
theorem dX51_eatsTerm_50 : decode cX51_eatsTerm 50 = .ok (.ifCond .eq 7, 3) := dk_153 0 7 (dk_at dksX51_eatsTerm_2 3 rfl rfl)
theorem dX51_eatsTerm_53 : decode cX51_eatsTerm 53 = .ok (.iconst 1, 1) := dk_4 (dk_at dksX51_eatsTerm_2 6 rfl rfl)
theorem dX51_eatsTerm_54 : decode cX51_eatsTerm 54 = .ok (.goto 4, 3) := dk_167 0 4 (dk_at dksX51_eatsTerm_2 7 rfl rfl)
theorem dX51_eatsTerm_57 : decode cX51_eatsTerm 57 = .ok (.iconst 0, 1) := dk_3 (dk_at dksX51_eatsTerm_2 10 rfl rfl)
theorem dX51_eatsTerm_58 : decode cX51_eatsTerm 58 = .ok (.istore_n 1, 1) := dk_60 (dk_at dksX51_eatsTerm_2 11 rfl rfl)
theorem dX51_eatsTerm_59 : decode cX51_eatsTerm 59 = .ok (.iload_n 1, 1) := dk_27 (dk_at dksX51_eatsTerm_2 12 rfl rfl)
theorem dX51_eatsTerm_60 : decode cX51_eatsTerm 60 = .ok (.ifCond .eq 21, 3) := dk_153 0 21 (dk_at dksX51_eatsTerm_2 13 rfl rfl)
theorem dX51_eatsTerm_63 : decode cX51_eatsTerm 63 = .ok (.aload_n 0, 1) := dk_42 (dk_at dksX51_eatsTerm_2 16 rfl rfl)
theorem dX51_eatsTerm_64 : decode cX51_eatsTerm 64 = .ok (.ldc2_w 111, 3) := dk_20 0 111 (dk_at dksX51_eatsTerm_2 17 rfl rfl)
theorem dX51_eatsTerm_67 : decode cX51_eatsTerm 67 = .ok (.invokevirtual 100, 3) := dk_182 0 100 (dk_at dksX51_eatsTerm_2 20 rfl rfl)
theorem dX51_eatsTerm_70 : decode cX51_eatsTerm 70 = .ok (.ifCond .eq 11, 3) := dk_153 0 11 (dk_at dksX51_eatsTerm_3 0 rfl rfl)
theorem dX51_eatsTerm_73 : decode cX51_eatsTerm 73 = .ok (.aload_n 0, 1) := dk_42 (dk_at dksX51_eatsTerm_3 3 rfl rfl)
theorem dX51_eatsTerm_74 : decode cX51_eatsTerm 74 = .ok (.iconst 0, 1) := dk_3 (dk_at dksX51_eatsTerm_3 4 rfl rfl)
theorem dX51_eatsTerm_75 : decode cX51_eatsTerm 75 = .ok (.ldc 113, 2) := dk_18 113 (dk_at dksX51_eatsTerm_3 5 rfl rfl)
theorem dX51_eatsTerm_77 : decode cX51_eatsTerm 77 = .ok (.invokevirtual 105, 3) := dk_182 0 105 (dk_at dksX51_eatsTerm_3 7 rfl rfl)
theorem dX51_eatsTerm_80 : decode cX51_eatsTerm 80 = .ok (.istore_n 1, 1) := dk_60 (dk_at dksX51_eatsTerm_3 10 rfl rfl)
theorem dX51_eatsTerm_81 : decode cX51_eatsTerm 81 = .ok (.iload_n 1, 1) := dk_27 (dk_at dksX51_eatsTerm_3 11 rfl rfl)
theorem dX51_eatsTerm_82 : decode cX51_eatsTerm 82 = .ok (.ifCond .eq 22, 3) := dk_153 0 22 (dk_at dksX51_eatsTerm_3 12 rfl rfl)
theorem dX51_eatsTerm_85 : decode cX51_eatsTerm 85 = .ok (.aload_n 0, 1) := dk_42 (dk_at dksX51_eatsTerm_3 15 rfl rfl)
theorem dX51_eatsTerm_86 : decode cX51_eatsTerm 86 = .ok (.ldc2_w 114, 3) := dk_20 0 114 (dk_at dksX51_eatsTerm_3 16 rfl rfl)
theorem dX51_eatsTerm_89 : decode cX51_eatsTerm 89 = .ok (.invokevirtual 100, 3) := dk_182 0 100 (dk_at dksX51_eatsTerm_3 19 rfl rfl)
theorem dX51_eatsTerm_92 : decode cX51_eatsTerm 92 = .ok (.ifCond .eq 12, 3) := dk_153 0 12 (dk_at dksX51_eatsTerm_4 0 rfl rfl)
theorem dX51_eatsTerm_95 : decode cX51_eatsTerm 95 = .ok (.aload_n 0, 1) := dk_42 (dk_at dksX51_eatsTerm_4 3 rfl rfl)
theorem dX51_eatsTerm_96 : decode cX51_eatsTerm 96 = .ok (.iconst 0, 1) := dk_3 (dk_at dksX51_eatsTerm_4 4 rfl rfl)
theorem dX51_eatsTerm_97 : decode cX51_eatsTerm 97 = .ok (.sipush 999, 3) := dk_17 3 231 (dk_at dksX51_eatsTerm_4 5 rfl rfl)
theorem dX51_eatsTerm_100 : decode cX51_eatsTerm 100 = .ok (.invokevirtual 105, 3) := dk_182 0 105 (dk_at dksX51_eatsTerm_4 8 rfl rfl)
theorem dX51_eatsTerm_103 : decode cX51_eatsTerm 103 = .ok (.istore_n 1, 1) := dk_60 (dk_at dksX51_eatsTerm_4 11 rfl rfl)
theorem dX51_eatsTerm_104 : decode cX51_eatsTerm 104 = .ok (.iload_n 1, 1) := dk_27 (dk_at dksX51_eatsTerm_4 12 rfl rfl)
theorem dX51_eatsTerm_105 : decode cX51_eatsTerm 105 = .ok (.ireturn, 1) := dk_172 (dk_at dksX51_eatsTerm_4 13 rfl rfl)
abbrev cX51_test : ByteArray := prog_60_method_22_code
def yX51_test : MethodName := ⟨RX51, "test", "(II)Z"⟩
def dkwX51_test_1 : List UInt8 := [164, 0, 5, 3, 172, 42, 180, 0, 48, 27, 28, 79, 4, 172]
abbrev dktX51_test_1 : List UInt8 := dkwX51_test_1 ++ []
def dkwX51_test_0 : List UInt8 := [42, 3, 181, 0, 68, 27, 155, 0, 20, 27, 16, 7, 163, 0, 14, 28, 2, 161, 0, 9, 28, 16, 9]
abbrev dktX51_test_0 : List UInt8 := dkwX51_test_0 ++ dktX51_test_1
theorem dksX51_test_0 : cX51_test.data.toList.drop 0 = dktX51_test_0 := by decide +kernel
theorem dksX51_test_1 : cX51_test.data.toList.drop 23 = dktX51_test_1 := dk_seg dksX51_test_0 23 rfl rfl
theorem dX51_test_0 : decode cX51_test 0 = .ok (.aload_n 0, 1) := dk_42 (dk_at dksX51_test_0 0 rfl rfl)
theorem dX51_test_1 : decode cX51_test 1 = .ok (.iconst 0, 1) := dk_3 (dk_at dksX51_test_0 1 rfl rfl)
theorem dX51_test_2 : decode cX51_test 2 = .ok (.putfield 68, 3) := dk_181 0 68 (dk_at dksX51_test_0 2 rfl rfl)
theorem dX51_test_5 : decode cX51_test 5 = .ok (.iload_n 1, 1) := dk_27 (dk_at dksX51_test_0 5 rfl rfl)
theorem dX51_test_6 : decode cX51_test 6 = .ok (.ifCond .lt 20, 3) := dk_155 0 20 (dk_at dksX51_test_0 6 rfl rfl)
theorem dX51_test_9 : decode cX51_test 9 = .ok (.iload_n 1, 1) := dk_27 (dk_at dksX51_test_0 9 rfl rfl)
theorem dX51_test_10 : decode cX51_test 10 = .ok (.bipush 7, 2) := dk_16 7 (dk_at dksX51_test_0 10 rfl rfl)
theorem dX51_test_12 : decode cX51_test 12 = .ok (.if_icmp .gt 14, 3) := dk_163 0 14 (dk_at dksX51_test_0 12 rfl rfl)
theorem dX51_test_15 : decode cX51_test 15 = .ok (.iload_n 2, 1) := dk_28 (dk_at dksX51_test_0 15 rfl rfl)
theorem dX51_test_16 : decode cX51_test 16 = .ok (.iconst (-1), 1) := dk_2 (dk_at dksX51_test_0 16 rfl rfl)
theorem dX51_test_17 : decode cX51_test 17 = .ok (.if_icmp .lt 9, 3) := dk_161 0 9 (dk_at dksX51_test_0 17 rfl rfl)
theorem dX51_test_20 : decode cX51_test 20 = .ok (.iload_n 2, 1) := dk_28 (dk_at dksX51_test_0 20 rfl rfl)
theorem dX51_test_21 : decode cX51_test 21 = .ok (.bipush 9, 2) := dk_16 9 (dk_at dksX51_test_0 21 rfl rfl)
theorem dX51_test_23 : decode cX51_test 23 = .ok (.if_icmp .le 5, 3) := dk_164 0 5 (dk_at dksX51_test_1 0 rfl rfl)
theorem dX51_test_26 : decode cX51_test 26 = .ok (.iconst 0, 1) := dk_3 (dk_at dksX51_test_1 3 rfl rfl)
theorem dX51_test_27 : decode cX51_test 27 = .ok (.ireturn, 1) := dk_172 (dk_at dksX51_test_1 4 rfl rfl)
theorem dX51_test_28 : decode cX51_test 28 = .ok (.aload_n 0, 1) := dk_42 (dk_at dksX51_test_1 5 rfl rfl)
theorem dX51_test_29 : decode cX51_test 29 = .ok (.getfield 48, 3) := dk_180 0 48 (dk_at dksX51_test_1 6 rfl rfl)
theorem dX51_test_32 : decode cX51_test 32 = .ok (.iload_n 1, 1) := dk_27 (dk_at dksX51_test_1 9 rfl rfl)
theorem dX51_test_33 : decode cX51_test 33 = .ok (.iload_n 2, 1) := dk_28 (dk_at dksX51_test_1 10 rfl rfl)
theorem dX51_test_34 : decode cX51_test 34 = .ok (.iastore, 1) := dk_79 (dk_at dksX51_test_1 11 rfl rfl)
theorem dX51_test_35 : decode cX51_test 35 = .ok (.iconst 1, 1) := dk_4 (dk_at dksX51_test_1 12 rfl rfl)
theorem dX51_test_36 : decode cX51_test 36 = .ok (.ireturn, 1) := dk_172 (dk_at dksX51_test_1 13 rfl rfl)
abbrev cX51_clearParts : ByteArray := prog_60_method_23_code
def yX51_clearParts : MethodName := ⟨RX51, "clearParts", "()V"⟩
def dkwX51_clearParts_2 : List UInt8 := [177]
abbrev dktX51_clearParts_2 : List UInt8 := dkwX51_clearParts_2 ++ []
def dkwX51_clearParts_1 : List UInt8 := [167, 255, 240, 3, 60, 27, 16, 7, 163, 0, 16, 42, 180, 0, 48, 27, 2, 79, 132, 1, 1, 167, 255, 240]
abbrev dktX51_clearParts_1 : List UInt8 := dkwX51_clearParts_1 ++ dktX51_clearParts_2
def dkwX51_clearParts_0 : List UInt8 := [42, 3, 181, 0, 68, 3, 60, 27, 16, 15, 163, 0, 16, 42, 180, 0, 44, 27, 3, 84, 132, 1, 1]
abbrev dktX51_clearParts_0 : List UInt8 := dkwX51_clearParts_0 ++ dktX51_clearParts_1
theorem dksX51_clearParts_0 : cX51_clearParts.data.toList.drop 0 = dktX51_clearParts_0 := by decide +kernel
theorem dksX51_clearParts_1 : cX51_clearParts.data.toList.drop 23 = dktX51_clearParts_1 := dk_seg dksX51_clearParts_0 23 rfl rfl
theorem dksX51_clearParts_2 : cX51_clearParts.data.toList.drop 47 = dktX51_clearParts_2 := dk_seg dksX51_clearParts_1 24 rfl rfl
theorem dX51_clearParts_0 : decode cX51_clearParts 0 = .ok (.aload_n 0, 1) := dk_42 (dk_at dksX51_clearParts_0 0 rfl rfl)
theorem dX51_clearParts_1 : decode cX51_clearParts 1 = .ok (.iconst 0, 1) := dk_3 (dk_at dksX51_clearParts_0 1 rfl rfl)
theorem dX51_clearParts_2 : decode cX51_clearParts 2 = .ok (.putfield 68, 3) := dk_181 0 68 (dk_at dksX51_clearParts_0 2 rfl rfl)
theorem dX51_clearParts_5 : decode cX51_clearParts 5 = .ok (.iconst 0, 1) := dk_3 (dk_at dksX51_clearParts_0 5 rfl rfl)
theorem dX51_clearParts_6 : decode cX51_clearParts 6 = .ok (.istore_n 1, 1) := dk_60 (dk_at dksX51_clearParts_0 6 rfl rfl)
theorem dX51_clearParts_7 : decode cX51_clearParts 7 = .ok (.iload_n 1, 1) := dk_27 (dk_at dksX51_clearParts_0 7 rfl rfl)
theorem dX51_clearParts_8 : decode cX51_clearParts 8 = .ok (.bipush 15, 2) := dk_16 15 (dk_at dksX51_clearParts_0 8 rfl rfl)
theorem dX51_clearParts_10 : decode cX51_clearParts 10 = .ok (.if_icmp .gt 16, 3) := dk_163 0 16 (dk_at dksX51_clearParts_0 10 rfl rfl)
theorem dX51_clearParts_13 : decode cX51_clearParts 13 = .ok (.aload_n 0, 1) := dk_42 (dk_at dksX51_clearParts_0 13 rfl rfl)
theorem dX51_clearParts_14 : decode cX51_clearParts 14 = .ok (.getfield 44, 3) := dk_180 0 44 (dk_at dksX51_clearParts_0 14 rfl rfl)
theorem dX51_clearParts_17 : decode cX51_clearParts 17 = .ok (.iload_n 1, 1) := dk_27 (dk_at dksX51_clearParts_0 17 rfl rfl)
theorem dX51_clearParts_18 : decode cX51_clearParts 18 = .ok (.iconst 0, 1) := dk_3 (dk_at dksX51_clearParts_0 18 rfl rfl)
theorem dX51_clearParts_19 : decode cX51_clearParts 19 = .ok (.bastore, 1) := dk_84 (dk_at dksX51_clearParts_0 19 rfl rfl)
theorem dX51_clearParts_20 : decode cX51_clearParts 20 = .ok (.iinc 1 1, 3) := dk_132 1 1 (dk_at dksX51_clearParts_0 20 rfl rfl)
theorem dX51_clearParts_23 : decode cX51_clearParts 23 = .ok (.goto (-16), 3) := dk_167 255 240 (dk_at dksX51_clearParts_1 0 rfl rfl)
theorem dX51_clearParts_26 : decode cX51_clearParts 26 = .ok (.iconst 0, 1) := dk_3 (dk_at dksX51_clearParts_1 3 rfl rfl)
theorem dX51_clearParts_27 : decode cX51_clearParts 27 = .ok (.istore_n 1, 1) := dk_60 (dk_at dksX51_clearParts_1 4 rfl rfl)
theorem dX51_clearParts_28 : decode cX51_clearParts 28 = .ok (.iload_n 1, 1) := dk_27 (dk_at dksX51_clearParts_1 5 rfl rfl)
theorem dX51_clearParts_29 : decode cX51_clearParts 29 = .ok (.bipush 7, 2) := dk_16 7 (dk_at dksX51_clearParts_1 6 rfl rfl)
theorem dX51_clearParts_31 : decode cX51_clearParts 31 = .ok (.if_icmp .gt 16, 3) := dk_163 0 16 (dk_at dksX51_clearParts_1 8 rfl rfl)
theorem dX51_clearParts_34 : decode cX51_clearParts 34 = .ok (.aload_n 0, 1) := dk_42 (dk_at dksX51_clearParts_1 11 rfl rfl)
theorem dX51_clearParts_35 : decode cX51_clearParts 35 = .ok (.getfield 48, 3) := dk_180 0 48 (dk_at dksX51_clearParts_1 12 rfl rfl)
theorem dX51_clearParts_38 : decode cX51_clearParts 38 = .ok (.iload_n 1, 1) := dk_27 (dk_at dksX51_clearParts_1 15 rfl rfl)
theorem dX51_clearParts_39 : decode cX51_clearParts 39 = .ok (.iconst (-1), 1) := dk_2 (dk_at dksX51_clearParts_1 16 rfl rfl)
theorem dX51_clearParts_40 : decode cX51_clearParts 40 = .ok (.iastore, 1) := dk_79 (dk_at dksX51_clearParts_1 17 rfl rfl)
theorem dX51_clearParts_41 : decode cX51_clearParts 41 = .ok (.iinc 1 1, 3) := dk_132 1 1 (dk_at dksX51_clearParts_1 18 rfl rfl)
theorem dX51_clearParts_44 : decode cX51_clearParts 44 = .ok (.goto (-16), 3) := dk_167 255 240 (dk_at dksX51_clearParts_1 21 rfl rfl)
theorem dX51_clearParts_47 : decode cX51_clearParts 47 = .ok (.return_, 1) := dk_177 (dk_at dksX51_clearParts_2 0 rfl rfl)
abbrev cX51_way : ByteArray := prog_60_method_24_code
def yX51_way : MethodName := ⟨RX51, "way", "(Z)Z"⟩
def dkwX51_way_0 : List UInt8 := [42, 3, 181, 0, 68, 42, 180, 0, 51, 61, 42, 27, 181, 0, 51, 28, 172]
abbrev dktX51_way_0 : List UInt8 := dkwX51_way_0 ++ []
theorem dksX51_way_0 : cX51_way.data.toList.drop 0 = dktX51_way_0 := by decide +kernel
theorem dX51_way_0 : decode cX51_way 0 = .ok (.aload_n 0, 1) := dk_42 (dk_at dksX51_way_0 0 rfl rfl)
theorem dX51_way_1 : decode cX51_way 1 = .ok (.iconst 0, 1) := dk_3 (dk_at dksX51_way_0 1 rfl rfl)
theorem dX51_way_2 : decode cX51_way 2 = .ok (.putfield 68, 3) := dk_181 0 68 (dk_at dksX51_way_0 2 rfl rfl)
theorem dX51_way_5 : decode cX51_way 5 = .ok (.aload_n 0, 1) := dk_42 (dk_at dksX51_way_0 5 rfl rfl)
theorem dX51_way_6 : decode cX51_way 6 = .ok (.getfield 51, 3) := dk_180 0 51 (dk_at dksX51_way_0 6 rfl rfl)
theorem dX51_way_9 : decode cX51_way 9 = .ok (.istore_n 2, 1) := dk_61 (dk_at dksX51_way_0 9 rfl rfl)
theorem dX51_way_10 : decode cX51_way 10 = .ok (.aload_n 0, 1) := dk_42 (dk_at dksX51_way_0 10 rfl rfl)
theorem dX51_way_11 : decode cX51_way 11 = .ok (.iload_n 1, 1) := dk_27 (dk_at dksX51_way_0 11 rfl rfl)
theorem dX51_way_12 : decode cX51_way 12 = .ok (.putfield 51, 3) := dk_181 0 51 (dk_at dksX51_way_0 12 rfl rfl)
theorem dX51_way_15 : decode cX51_way 15 = .ok (.iload_n 2, 1) := dk_28 (dk_at dksX51_way_0 15 rfl rfl)
theorem dX51_way_16 : decode cX51_way 16 = .ok (.ireturn, 1) := dk_172 (dk_at dksX51_way_0 16 rfl rfl)
abbrev cX51_walk : ByteArray := prog_60_method_38_code
def yX51_walk : MethodName := ⟨RX51, "walk", "(J)I"⟩
def dkwX51_walk_0 : List UInt8 := [42, 31, 182, 0, 238, 172]
abbrev dktX51_walk_0 : List UInt8 := dkwX51_walk_0 ++ []
theorem dksX51_walk_0 : cX51_walk.data.toList.drop 0 = dktX51_walk_0 := by decide +kernel
theorem dX51_walk_0 : decode cX51_walk 0 = .ok (.aload_n 0, 1) := dk_42 (dk_at dksX51_walk_0 0 rfl rfl)
theorem dX51_walk_1 : decode cX51_walk 1 = .ok (.lload_n 1, 1) := dk_31 (dk_at dksX51_walk_0 1 rfl rfl)
theorem dX51_walk_2 : decode cX51_walk 2 = .ok (.invokevirtual 238, 3) := dk_182 0 238 (dk_at dksX51_walk_0 2 rfl rfl)
theorem dX51_walk_5 : decode cX51_walk 5 = .ok (.ireturn, 1) := dk_172 (dk_at dksX51_walk_0 5 rfl rfl)
abbrev cX51_mark : ByteArray := prog_60_method_40_code
def yX51_mark : MethodName := ⟨RX51, "mark", "(I)I"⟩
def dkwX51_mark_1 : List UInt8 := [167, 0, 4, 2, 172]
abbrev dktX51_mark_1 : List UInt8 := dkwX51_mark_1 ++ []
def dkwX51_mark_0 : List UInt8 := [42, 3, 181, 0, 68, 27, 155, 0, 20, 27, 42, 180, 0, 179, 162, 0, 12, 42, 180, 0, 65, 27, 46]
abbrev dktX51_mark_0 : List UInt8 := dkwX51_mark_0 ++ dktX51_mark_1
theorem dksX51_mark_0 : cX51_mark.data.toList.drop 0 = dktX51_mark_0 := by decide +kernel
theorem dksX51_mark_1 : cX51_mark.data.toList.drop 23 = dktX51_mark_1 := dk_seg dksX51_mark_0 23 rfl rfl
theorem dX51_mark_0 : decode cX51_mark 0 = .ok (.aload_n 0, 1) := dk_42 (dk_at dksX51_mark_0 0 rfl rfl)
theorem dX51_mark_1 : decode cX51_mark 1 = .ok (.iconst 0, 1) := dk_3 (dk_at dksX51_mark_0 1 rfl rfl)
theorem dX51_mark_2 : decode cX51_mark 2 = .ok (.putfield 68, 3) := dk_181 0 68 (dk_at dksX51_mark_0 2 rfl rfl)
theorem dX51_mark_5 : decode cX51_mark 5 = .ok (.iload_n 1, 1) := dk_27 (dk_at dksX51_mark_0 5 rfl rfl)
theorem dX51_mark_6 : decode cX51_mark 6 = .ok (.ifCond .lt 20, 3) := dk_155 0 20 (dk_at dksX51_mark_0 6 rfl rfl)
theorem dX51_mark_9 : decode cX51_mark 9 = .ok (.iload_n 1, 1) := dk_27 (dk_at dksX51_mark_0 9 rfl rfl)
theorem dX51_mark_10 : decode cX51_mark 10 = .ok (.aload_n 0, 1) := dk_42 (dk_at dksX51_mark_0 10 rfl rfl)
theorem dX51_mark_11 : decode cX51_mark 11 = .ok (.getfield 179, 3) := dk_180 0 179 (dk_at dksX51_mark_0 11 rfl rfl)
theorem dX51_mark_14 : decode cX51_mark 14 = .ok (.if_icmp .ge 12, 3) := dk_162 0 12 (dk_at dksX51_mark_0 14 rfl rfl)
theorem dX51_mark_17 : decode cX51_mark 17 = .ok (.aload_n 0, 1) := dk_42 (dk_at dksX51_mark_0 17 rfl rfl)
theorem dX51_mark_18 : decode cX51_mark 18 = .ok (.getfield 65, 3) := dk_180 0 65 (dk_at dksX51_mark_0 18 rfl rfl)
theorem dX51_mark_21 : decode cX51_mark 21 = .ok (.iload_n 1, 1) := dk_27 (dk_at dksX51_mark_0 21 rfl rfl)
theorem dX51_mark_22 : decode cX51_mark 22 = .ok (.iaload, 1) := dk_46 (dk_at dksX51_mark_0 22 rfl rfl)
theorem dX51_mark_23 : decode cX51_mark 23 = .ok (.goto 4, 3) := dk_167 0 4 (dk_at dksX51_mark_1 0 rfl rfl)
theorem dX51_mark_26 : decode cX51_mark 26 = .ok (.iconst (-1), 1) := dk_2 (dk_at dksX51_mark_1 3 rfl rfl)
theorem dX51_mark_27 : decode cX51_mark 27 = .ok (.ireturn, 1) := dk_172 (dk_at dksX51_mark_1 4 rfl rfl)
abbrev cX51_missing : ByteArray := prog_60_method_45_code
def yX51_missing : MethodName := ⟨RX51, "missing", "(I)I"⟩
def dkwX51_missing_4 : List UInt8 := [132, 3, 1, 167, 255, 170, 2, 172]
abbrev dktX51_missing_4 : List UInt8 := dkwX51_missing_4 ++ []
def dkwX51_missing_3 : List UInt8 := [132, 6, 1, 167, 255, 219, 21, 5, 153, 0, 14, 28, 27, 160, 0, 6, 21, 4, 172, 132, 2, 1]
abbrev dktX51_missing_3 : List UInt8 := dkwX51_missing_3 ++ dktX51_missing_4
def dkwX51_missing_2 : List UInt8 := [180, 0, 62, 42, 21, 6, 182, 0, 247, 46, 21, 4, 159, 0, 7, 4, 167, 0, 4, 3, 54, 5]
abbrev dktX51_missing_2 : List UInt8 := dkwX51_missing_2 ++ dktX51_missing_3
def dkwX51_missing_1 : List UInt8 := [182, 0, 247, 46, 54, 4, 4, 54, 5, 3, 54, 6, 21, 6, 29, 162, 0, 37, 21, 5, 153, 0, 23, 42]
abbrev dktX51_missing_1 : List UInt8 := dkwX51_missing_1 ++ dktX51_missing_2
def dkwX51_missing_0 : List UInt8 := [42, 3, 181, 0, 68, 3, 61, 3, 62, 42, 29, 182, 0, 247, 2, 159, 0, 83, 42, 180, 0, 62, 42, 29]
abbrev dktX51_missing_0 : List UInt8 := dkwX51_missing_0 ++ dktX51_missing_1
theorem dksX51_missing_0 : cX51_missing.data.toList.drop 0 = dktX51_missing_0 := by decide +kernel
theorem dksX51_missing_1 : cX51_missing.data.toList.drop 24 = dktX51_missing_1 := dk_seg dksX51_missing_0 24 rfl rfl
theorem dksX51_missing_2 : cX51_missing.data.toList.drop 48 = dktX51_missing_2 := dk_seg dksX51_missing_1 24 rfl rfl
theorem dksX51_missing_3 : cX51_missing.data.toList.drop 70 = dktX51_missing_3 := dk_seg dksX51_missing_2 22 rfl rfl
theorem dksX51_missing_4 : cX51_missing.data.toList.drop 92 = dktX51_missing_4 := dk_seg dksX51_missing_3 22 rfl rfl
theorem dX51_missing_0 : decode cX51_missing 0 = .ok (.aload_n 0, 1) := dk_42 (dk_at dksX51_missing_0 0 rfl rfl)
theorem dX51_missing_1 : decode cX51_missing 1 = .ok (.iconst 0, 1) := dk_3 (dk_at dksX51_missing_0 1 rfl rfl)
theorem dX51_missing_2 : decode cX51_missing 2 = .ok (.putfield 68, 3) := dk_181 0 68 (dk_at dksX51_missing_0 2 rfl rfl)
theorem dX51_missing_5 : decode cX51_missing 5 = .ok (.iconst 0, 1) := dk_3 (dk_at dksX51_missing_0 5 rfl rfl)
theorem dX51_missing_6 : decode cX51_missing 6 = .ok (.istore_n 2, 1) := dk_61 (dk_at dksX51_missing_0 6 rfl rfl)
theorem dX51_missing_7 : decode cX51_missing 7 = .ok (.iconst 0, 1) := dk_3 (dk_at dksX51_missing_0 7 rfl rfl)
theorem dX51_missing_8 : decode cX51_missing 8 = .ok (.istore_n 3, 1) := dk_62 (dk_at dksX51_missing_0 8 rfl rfl)
theorem dX51_missing_9 : decode cX51_missing 9 = .ok (.aload_n 0, 1) := dk_42 (dk_at dksX51_missing_0 9 rfl rfl)
theorem dX51_missing_10 : decode cX51_missing 10 = .ok (.iload_n 3, 1) := dk_29 (dk_at dksX51_missing_0 10 rfl rfl)
theorem dX51_missing_11 : decode cX51_missing 11 = .ok (.invokevirtual 247, 3) := dk_182 0 247 (dk_at dksX51_missing_0 11 rfl rfl)
theorem dX51_missing_14 : decode cX51_missing 14 = .ok (.iconst (-1), 1) := dk_2 (dk_at dksX51_missing_0 14 rfl rfl)
theorem dX51_missing_15 : decode cX51_missing 15 = .ok (.if_icmp .eq 83, 3) := dk_159 0 83 (dk_at dksX51_missing_0 15 rfl rfl)
theorem dX51_missing_18 : decode cX51_missing 18 = .ok (.aload_n 0, 1) := dk_42 (dk_at dksX51_missing_0 18 rfl rfl)
theorem dX51_missing_19 : decode cX51_missing 19 = .ok (.getfield 62, 3) := dk_180 0 62 (dk_at dksX51_missing_0 19 rfl rfl)
theorem dX51_missing_22 : decode cX51_missing 22 = .ok (.aload_n 0, 1) := dk_42 (dk_at dksX51_missing_0 22 rfl rfl)
theorem dX51_missing_23 : decode cX51_missing 23 = .ok (.iload_n 3, 1) := dk_29 (dk_at dksX51_missing_0 23 rfl rfl)
theorem dX51_missing_24 : decode cX51_missing 24 = .ok (.invokevirtual 247, 3) := dk_182 0 247 (dk_at dksX51_missing_1 0 rfl rfl)
theorem dX51_missing_27 : decode cX51_missing 27 = .ok (.iaload, 1) := dk_46 (dk_at dksX51_missing_1 3 rfl rfl)
theorem dX51_missing_28 : decode cX51_missing 28 = .ok (.istore 4, 2) := dk_54 4 (dk_at dksX51_missing_1 4 rfl rfl)
theorem dX51_missing_30 : decode cX51_missing 30 = .ok (.iconst 1, 1) := dk_4 (dk_at dksX51_missing_1 6 rfl rfl)
theorem dX51_missing_31 : decode cX51_missing 31 = .ok (.istore 5, 2) := dk_54 5 (dk_at dksX51_missing_1 7 rfl rfl)
theorem dX51_missing_33 : decode cX51_missing 33 = .ok (.iconst 0, 1) := dk_3 (dk_at dksX51_missing_1 9 rfl rfl)
theorem dX51_missing_34 : decode cX51_missing 34 = .ok (.istore 6, 2) := dk_54 6 (dk_at dksX51_missing_1 10 rfl rfl)
theorem dX51_missing_36 : decode cX51_missing 36 = .ok (.iload 6, 2) := dk_21 6 (dk_at dksX51_missing_1 12 rfl rfl)
theorem dX51_missing_38 : decode cX51_missing 38 = .ok (.iload_n 3, 1) := dk_29 (dk_at dksX51_missing_1 14 rfl rfl)
theorem dX51_missing_39 : decode cX51_missing 39 = .ok (.if_icmp .ge 37, 3) := dk_162 0 37 (dk_at dksX51_missing_1 15 rfl rfl)
theorem dX51_missing_42 : decode cX51_missing 42 = .ok (.iload 5, 2) := dk_21 5 (dk_at dksX51_missing_1 18 rfl rfl)
theorem dX51_missing_44 : decode cX51_missing 44 = .ok (.ifCond .eq 23, 3) := dk_153 0 23 (dk_at dksX51_missing_1 20 rfl rfl)
theorem dX51_missing_47 : decode cX51_missing 47 = .ok (.aload_n 0, 1) := dk_42 (dk_at dksX51_missing_1 23 rfl rfl)
theorem dX51_missing_48 : decode cX51_missing 48 = .ok (.getfield 62, 3) := dk_180 0 62 (dk_at dksX51_missing_2 0 rfl rfl)
theorem dX51_missing_51 : decode cX51_missing 51 = .ok (.aload_n 0, 1) := dk_42 (dk_at dksX51_missing_2 3 rfl rfl)
theorem dX51_missing_52 : decode cX51_missing 52 = .ok (.iload 6, 2) := dk_21 6 (dk_at dksX51_missing_2 4 rfl rfl)
theorem dX51_missing_54 : decode cX51_missing 54 = .ok (.invokevirtual 247, 3) := dk_182 0 247 (dk_at dksX51_missing_2 6 rfl rfl)
theorem dX51_missing_57 : decode cX51_missing 57 = .ok (.iaload, 1) := dk_46 (dk_at dksX51_missing_2 9 rfl rfl)
theorem dX51_missing_58 : decode cX51_missing 58 = .ok (.iload 4, 2) := dk_21 4 (dk_at dksX51_missing_2 10 rfl rfl)
theorem dX51_missing_60 : decode cX51_missing 60 = .ok (.if_icmp .eq 7, 3) := dk_159 0 7 (dk_at dksX51_missing_2 12 rfl rfl)
theorem dX51_missing_63 : decode cX51_missing 63 = .ok (.iconst 1, 1) := dk_4 (dk_at dksX51_missing_2 15 rfl rfl)
theorem dX51_missing_64 : decode cX51_missing 64 = .ok (.goto 4, 3) := dk_167 0 4 (dk_at dksX51_missing_2 16 rfl rfl)
theorem dX51_missing_67 : decode cX51_missing 67 = .ok (.iconst 0, 1) := dk_3 (dk_at dksX51_missing_2 19 rfl rfl)
theorem dX51_missing_68 : decode cX51_missing 68 = .ok (.istore 5, 2) := dk_54 5 (dk_at dksX51_missing_2 20 rfl rfl)
theorem dX51_missing_70 : decode cX51_missing 70 = .ok (.iinc 6 1, 3) := dk_132 6 1 (dk_at dksX51_missing_3 0 rfl rfl)
theorem dX51_missing_73 : decode cX51_missing 73 = .ok (.goto (-37), 3) := dk_167 255 219 (dk_at dksX51_missing_3 3 rfl rfl)
theorem dX51_missing_76 : decode cX51_missing 76 = .ok (.iload 5, 2) := dk_21 5 (dk_at dksX51_missing_3 6 rfl rfl)
theorem dX51_missing_78 : decode cX51_missing 78 = .ok (.ifCond .eq 14, 3) := dk_153 0 14 (dk_at dksX51_missing_3 8 rfl rfl)
theorem dX51_missing_81 : decode cX51_missing 81 = .ok (.iload_n 2, 1) := dk_28 (dk_at dksX51_missing_3 11 rfl rfl)
theorem dX51_missing_82 : decode cX51_missing 82 = .ok (.iload_n 1, 1) := dk_27 (dk_at dksX51_missing_3 12 rfl rfl)
theorem dX51_missing_83 : decode cX51_missing 83 = .ok (.if_icmp .ne 6, 3) := dk_160 0 6 (dk_at dksX51_missing_3 13 rfl rfl)
theorem dX51_missing_86 : decode cX51_missing 86 = .ok (.iload 4, 2) := dk_21 4 (dk_at dksX51_missing_3 16 rfl rfl)
theorem dX51_missing_88 : decode cX51_missing 88 = .ok (.ireturn, 1) := dk_172 (dk_at dksX51_missing_3 18 rfl rfl)
theorem dX51_missing_89 : decode cX51_missing 89 = .ok (.iinc 2 1, 3) := dk_132 2 1 (dk_at dksX51_missing_3 19 rfl rfl)
theorem dX51_missing_92 : decode cX51_missing 92 = .ok (.iinc 3 1, 3) := dk_132 3 1 (dk_at dksX51_missing_4 0 rfl rfl)
theorem dX51_missing_95 : decode cX51_missing 95 = .ok (.goto (-86), 3) := dk_167 255 170 (dk_at dksX51_missing_4 3 rfl rfl)
theorem dX51_missing_98 : decode cX51_missing 98 = .ok (.iconst (-1), 1) := dk_2 (dk_at dksX51_missing_4 6 rfl rfl)
theorem dX51_missing_99 : decode cX51_missing 99 = .ok (.ireturn, 1) := dk_172 (dk_at dksX51_missing_4 7 rfl rfl)
abbrev cX51_explain : ByteArray := prog_60_method_46_code
def yX51_explain : MethodName := ⟨RX51, "explain", "(III)I"⟩
def dkwX51_explain_4 : List UInt8 := [2, 172]
abbrev dktX51_explain_4 : List UInt8 := dkwX51_explain_4 ++ []
def dkwX51_explain_3 : List UInt8 := [160, 0, 13, 42, 180, 0, 29, 21, 5, 46, 167, 0, 4, 2, 172, 132, 4, 1, 132, 5, 1, 167, 255, 174]
abbrev dktX51_explain_3 : List UInt8 := dkwX51_explain_3 ++ dktX51_explain_4
def dkwX51_explain_2 : List UInt8 := [154, 0, 8, 21, 5, 167, 0, 33, 29, 4, 160, 0, 12, 42, 21, 5, 182, 0, 250, 167, 0, 19, 29, 5]
abbrev dktX51_explain_2 : List UInt8 := dkwX51_explain_2 ++ dktX51_explain_3
def dkwX51_explain_1 : List UInt8 := [21, 5, 46, 4, 160, 0, 62, 42, 21, 5, 182, 0, 198, 27, 160, 0, 52, 21, 4, 28, 160, 0, 43, 29]
abbrev dktX51_explain_1 : List UInt8 := dkwX51_explain_1 ++ dktX51_explain_2
def dkwX51_explain_0 : List UInt8 := [42, 3, 181, 0, 68, 3, 54, 4, 3, 54, 5, 21, 5, 42, 180, 0, 162, 162, 0, 79, 42, 180, 0, 59]
abbrev dktX51_explain_0 : List UInt8 := dkwX51_explain_0 ++ dktX51_explain_1
theorem dksX51_explain_0 : cX51_explain.data.toList.drop 0 = dktX51_explain_0 := by decide +kernel
theorem dksX51_explain_1 : cX51_explain.data.toList.drop 24 = dktX51_explain_1 := dk_seg dksX51_explain_0 24 rfl rfl
theorem dksX51_explain_2 : cX51_explain.data.toList.drop 48 = dktX51_explain_2 := dk_seg dksX51_explain_1 24 rfl rfl
theorem dksX51_explain_3 : cX51_explain.data.toList.drop 72 = dktX51_explain_3 := dk_seg dksX51_explain_2 24 rfl rfl
theorem dksX51_explain_4 : cX51_explain.data.toList.drop 96 = dktX51_explain_4 := dk_seg dksX51_explain_3 24 rfl rfl
theorem dX51_explain_0 : decode cX51_explain 0 = .ok (.aload_n 0, 1) := dk_42 (dk_at dksX51_explain_0 0 rfl rfl)
theorem dX51_explain_1 : decode cX51_explain 1 = .ok (.iconst 0, 1) := dk_3 (dk_at dksX51_explain_0 1 rfl rfl)
theorem dX51_explain_2 : decode cX51_explain 2 = .ok (.putfield 68, 3) := dk_181 0 68 (dk_at dksX51_explain_0 2 rfl rfl)
theorem dX51_explain_5 : decode cX51_explain 5 = .ok (.iconst 0, 1) := dk_3 (dk_at dksX51_explain_0 5 rfl rfl)
theorem dX51_explain_6 : decode cX51_explain 6 = .ok (.istore 4, 2) := dk_54 4 (dk_at dksX51_explain_0 6 rfl rfl)
theorem dX51_explain_8 : decode cX51_explain 8 = .ok (.iconst 0, 1) := dk_3 (dk_at dksX51_explain_0 8 rfl rfl)
theorem dX51_explain_9 : decode cX51_explain 9 = .ok (.istore 5, 2) := dk_54 5 (dk_at dksX51_explain_0 9 rfl rfl)
theorem dX51_explain_11 : decode cX51_explain 11 = .ok (.iload 5, 2) := dk_21 5 (dk_at dksX51_explain_0 11 rfl rfl)
theorem dX51_explain_13 : decode cX51_explain 13 = .ok (.aload_n 0, 1) := dk_42 (dk_at dksX51_explain_0 13 rfl rfl)
theorem dX51_explain_14 : decode cX51_explain 14 = .ok (.getfield 162, 3) := dk_180 0 162 (dk_at dksX51_explain_0 14 rfl rfl)
theorem dX51_explain_17 : decode cX51_explain 17 = .ok (.if_icmp .ge 79, 3) := dk_162 0 79 (dk_at dksX51_explain_0 17 rfl rfl)
theorem dX51_explain_20 : decode cX51_explain 20 = .ok (.aload_n 0, 1) := dk_42 (dk_at dksX51_explain_0 20 rfl rfl)
theorem dX51_explain_21 : decode cX51_explain 21 = .ok (.getfield 59, 3) := dk_180 0 59 (dk_at dksX51_explain_0 21 rfl rfl)
theorem dX51_explain_24 : decode cX51_explain 24 = .ok (.iload 5, 2) := dk_21 5 (dk_at dksX51_explain_1 0 rfl rfl)
theorem dX51_explain_26 : decode cX51_explain 26 = .ok (.iaload, 1) := dk_46 (dk_at dksX51_explain_1 2 rfl rfl)
theorem dX51_explain_27 : decode cX51_explain 27 = .ok (.iconst 1, 1) := dk_4 (dk_at dksX51_explain_1 3 rfl rfl)
theorem dX51_explain_28 : decode cX51_explain 28 = .ok (.if_icmp .ne 62, 3) := dk_160 0 62 (dk_at dksX51_explain_1 4 rfl rfl)
theorem dX51_explain_31 : decode cX51_explain 31 = .ok (.aload_n 0, 1) := dk_42 (dk_at dksX51_explain_1 7 rfl rfl)
theorem dX51_explain_32 : decode cX51_explain 32 = .ok (.iload 5, 2) := dk_21 5 (dk_at dksX51_explain_1 8 rfl rfl)
theorem dX51_explain_34 : decode cX51_explain 34 = .ok (.invokevirtual 198, 3) := dk_182 0 198 (dk_at dksX51_explain_1 10 rfl rfl)
theorem dX51_explain_37 : decode cX51_explain 37 = .ok (.iload_n 1, 1) := dk_27 (dk_at dksX51_explain_1 13 rfl rfl)
theorem dX51_explain_38 : decode cX51_explain 38 = .ok (.if_icmp .ne 52, 3) := dk_160 0 52 (dk_at dksX51_explain_1 14 rfl rfl)
theorem dX51_explain_41 : decode cX51_explain 41 = .ok (.iload 4, 2) := dk_21 4 (dk_at dksX51_explain_1 17 rfl rfl)
theorem dX51_explain_43 : decode cX51_explain 43 = .ok (.iload_n 2, 1) := dk_28 (dk_at dksX51_explain_1 19 rfl rfl)
theorem dX51_explain_44 : decode cX51_explain 44 = .ok (.if_icmp .ne 43, 3) := dk_160 0 43 (dk_at dksX51_explain_1 20 rfl rfl)
theorem dX51_explain_47 : decode cX51_explain 47 = .ok (.iload_n 3, 1) := dk_29 (dk_at dksX51_explain_1 23 rfl rfl)
theorem dX51_explain_48 : decode cX51_explain 48 = .ok (.ifCond .ne 8, 3) := dk_154 0 8 (dk_at dksX51_explain_2 0 rfl rfl)
theorem dX51_explain_51 : decode cX51_explain 51 = .ok (.iload 5, 2) := dk_21 5 (dk_at dksX51_explain_2 3 rfl rfl)
theorem dX51_explain_53 : decode cX51_explain 53 = .ok (.goto 33, 3) := dk_167 0 33 (dk_at dksX51_explain_2 5 rfl rfl)
theorem dX51_explain_56 : decode cX51_explain 56 = .ok (.iload_n 3, 1) := dk_29 (dk_at dksX51_explain_2 8 rfl rfl)
theorem dX51_explain_57 : decode cX51_explain 57 = .ok (.iconst 1, 1) := dk_4 (dk_at dksX51_explain_2 9 rfl rfl)
theorem dX51_explain_58 : decode cX51_explain 58 = .ok (.if_icmp .ne 12, 3) := dk_160 0 12 (dk_at dksX51_explain_2 10 rfl rfl)
theorem dX51_explain_61 : decode cX51_explain 61 = .ok (.aload_n 0, 1) := dk_42 (dk_at dksX51_explain_2 13 rfl rfl)
theorem dX51_explain_62 : decode cX51_explain 62 = .ok (.iload 5, 2) := dk_21 5 (dk_at dksX51_explain_2 14 rfl rfl)
theorem dX51_explain_64 : decode cX51_explain 64 = .ok (.invokevirtual 250, 3) := dk_182 0 250 (dk_at dksX51_explain_2 16 rfl rfl)
theorem dX51_explain_67 : decode cX51_explain 67 = .ok (.goto 19, 3) := dk_167 0 19 (dk_at dksX51_explain_2 19 rfl rfl)
theorem dX51_explain_70 : decode cX51_explain 70 = .ok (.iload_n 3, 1) := dk_29 (dk_at dksX51_explain_2 22 rfl rfl)
theorem dX51_explain_71 : decode cX51_explain 71 = .ok (.iconst 2, 1) := dk_5 (dk_at dksX51_explain_2 23 rfl rfl)
theorem dX51_explain_72 : decode cX51_explain 72 = .ok (.if_icmp .ne 13, 3) := dk_160 0 13 (dk_at dksX51_explain_3 0 rfl rfl)
theorem dX51_explain_75 : decode cX51_explain 75 = .ok (.aload_n 0, 1) := dk_42 (dk_at dksX51_explain_3 3 rfl rfl)
theorem dX51_explain_76 : decode cX51_explain 76 = .ok (.getfield 29, 3) := dk_180 0 29 (dk_at dksX51_explain_3 4 rfl rfl)
theorem dX51_explain_79 : decode cX51_explain 79 = .ok (.iload 5, 2) := dk_21 5 (dk_at dksX51_explain_3 7 rfl rfl)
theorem dX51_explain_81 : decode cX51_explain 81 = .ok (.iaload, 1) := dk_46 (dk_at dksX51_explain_3 9 rfl rfl)
theorem dX51_explain_82 : decode cX51_explain 82 = .ok (.goto 4, 3) := dk_167 0 4 (dk_at dksX51_explain_3 10 rfl rfl)
theorem dX51_explain_85 : decode cX51_explain 85 = .ok (.iconst (-1), 1) := dk_2 (dk_at dksX51_explain_3 13 rfl rfl)
theorem dX51_explain_86 : decode cX51_explain 86 = .ok (.ireturn, 1) := dk_172 (dk_at dksX51_explain_3 14 rfl rfl)
theorem dX51_explain_87 : decode cX51_explain 87 = .ok (.iinc 4 1, 3) := dk_132 4 1 (dk_at dksX51_explain_3 15 rfl rfl)
theorem dX51_explain_90 : decode cX51_explain 90 = .ok (.iinc 5 1, 3) := dk_132 5 1 (dk_at dksX51_explain_3 18 rfl rfl)
theorem dX51_explain_93 : decode cX51_explain 93 = .ok (.goto (-82), 3) := dk_167 255 174 (dk_at dksX51_explain_3 21 rfl rfl)
theorem dX51_explain_96 : decode cX51_explain 96 = .ok (.iconst (-1), 1) := dk_2 (dk_at dksX51_explain_4 0 rfl rfl)
theorem dX51_explain_97 : decode cX51_explain 97 = .ok (.ireturn, 1) := dk_172 (dk_at dksX51_explain_4 1 rfl rfl)
abbrev cX51_items : ByteArray := prog_60_method_47_code
def yX51_items : MethodName := ⟨RX51, "items", "(I)I"⟩
def dkwX51_items_1 : List UInt8 := [167, 255, 242, 28, 172]
abbrev dktX51_items_1 : List UInt8 := dkwX51_items_1 ++ []
def dkwX51_items_0 : List UInt8 := [3, 61, 42, 27, 182, 0, 201, 62, 29, 2, 159, 0, 15, 132, 2, 1, 42, 29, 182, 0, 204, 62]
abbrev dktX51_items_0 : List UInt8 := dkwX51_items_0 ++ dktX51_items_1
theorem dksX51_items_0 : cX51_items.data.toList.drop 0 = dktX51_items_0 := by decide +kernel
theorem dksX51_items_1 : cX51_items.data.toList.drop 22 = dktX51_items_1 := dk_seg dksX51_items_0 22 rfl rfl
theorem dX51_items_0 : decode cX51_items 0 = .ok (.iconst 0, 1) := dk_3 (dk_at dksX51_items_0 0 rfl rfl)
theorem dX51_items_1 : decode cX51_items 1 = .ok (.istore_n 2, 1) := dk_61 (dk_at dksX51_items_0 1 rfl rfl)
theorem dX51_items_2 : decode cX51_items 2 = .ok (.aload_n 0, 1) := dk_42 (dk_at dksX51_items_0 2 rfl rfl)
theorem dX51_items_3 : decode cX51_items 3 = .ok (.iload_n 1, 1) := dk_27 (dk_at dksX51_items_0 3 rfl rfl)
theorem dX51_items_4 : decode cX51_items 4 = .ok (.invokevirtual 201, 3) := dk_182 0 201 (dk_at dksX51_items_0 4 rfl rfl)
theorem dX51_items_7 : decode cX51_items 7 = .ok (.istore_n 3, 1) := dk_62 (dk_at dksX51_items_0 7 rfl rfl)
theorem dX51_items_8 : decode cX51_items 8 = .ok (.iload_n 3, 1) := dk_29 (dk_at dksX51_items_0 8 rfl rfl)
theorem dX51_items_9 : decode cX51_items 9 = .ok (.iconst (-1), 1) := dk_2 (dk_at dksX51_items_0 9 rfl rfl)
theorem dX51_items_10 : decode cX51_items 10 = .ok (.if_icmp .eq 15, 3) := dk_159 0 15 (dk_at dksX51_items_0 10 rfl rfl)
theorem dX51_items_13 : decode cX51_items 13 = .ok (.iinc 2 1, 3) := dk_132 2 1 (dk_at dksX51_items_0 13 rfl rfl)
theorem dX51_items_16 : decode cX51_items 16 = .ok (.aload_n 0, 1) := dk_42 (dk_at dksX51_items_0 16 rfl rfl)
theorem dX51_items_17 : decode cX51_items 17 = .ok (.iload_n 3, 1) := dk_29 (dk_at dksX51_items_0 17 rfl rfl)
theorem dX51_items_18 : decode cX51_items 18 = .ok (.invokevirtual 204, 3) := dk_182 0 204 (dk_at dksX51_items_0 18 rfl rfl)
theorem dX51_items_21 : decode cX51_items 21 = .ok (.istore_n 3, 1) := dk_62 (dk_at dksX51_items_0 21 rfl rfl)
theorem dX51_items_22 : decode cX51_items 22 = .ok (.goto (-14), 3) := dk_167 255 242 (dk_at dksX51_items_1 0 rfl rfl)
theorem dX51_items_25 : decode cX51_items 25 = .ok (.iload_n 2, 1) := dk_28 (dk_at dksX51_items_1 3 rfl rfl)
theorem dX51_items_26 : decode cX51_items 26 = .ok (.ireturn, 1) := dk_172 (dk_at dksX51_items_1 4 rfl rfl)
abbrev cX51_limit : ByteArray := prog_60_method_48_code
def yX51_limit : MethodName := ⟨RX51, "limit", "(I)J"⟩
def dkwX51_limit_6 : List UInt8 := [182, 0, 204, 54, 5, 167, 255, 174, 132, 4, 1, 167, 255, 119, 32, 173]
abbrev dktX51_limit_6 : List UInt8 := dkwX51_limit_6 ++ []
def dkwX51_limit_5 : List UInt8 := [155, 0, 11, 21, 6, 133, 32, 148, 156, 0, 9, 21, 6, 133, 167, 0, 4, 32, 65, 42, 21, 5]
abbrev dktX51_limit_5 : List UInt8 := dkwX51_limit_5 ++ dktX51_limit_6
def dkwX51_limit_4 : List UInt8 := [182, 0, 172, 54, 6, 42, 42, 180, 0, 191, 20, 0, 120, 182, 0, 168, 153, 0, 23, 32, 9, 148]
abbrev dktX51_limit_4 : List UInt8 := dkwX51_limit_4 ++ dktX51_limit_5
def dkwX51_limit_3 : List UInt8 := [20, 0, 132, 182, 0, 168, 153, 0, 59, 42, 21, 5, 4, 2, 182, 0, 194, 42, 42, 180, 0, 191, 4, 96]
abbrev dktX51_limit_3 : List UInt8 := dkwX51_limit_3 ++ dktX51_limit_4
def dkwX51_limit_2 : List UInt8 := [182, 0, 198, 27, 160, 0, 96, 42, 21, 4, 182, 0, 201, 54, 5, 21, 5, 2, 159, 0, 82, 42, 21, 5]
abbrev dktX51_limit_2 : List UInt8 := dkwX51_limit_2 ++ dktX51_limit_3
def dkwX51_limit_1 : List UInt8 := [180, 0, 55, 2, 159, 0, 126, 42, 180, 0, 32, 21, 4, 46, 42, 180, 0, 55, 160, 0, 106, 42, 21, 4]
abbrev dktX51_limit_1 : List UInt8 := dkwX51_limit_1 ++ dktX51_limit_2
def dkwX51_limit_0 : List UInt8 := [42, 3, 181, 0, 68, 20, 0, 253, 65, 3, 54, 4, 21, 4, 42, 180, 0, 162, 162, 0, 134, 42]
abbrev dktX51_limit_0 : List UInt8 := dkwX51_limit_0 ++ dktX51_limit_1
theorem dksX51_limit_0 : cX51_limit.data.toList.drop 0 = dktX51_limit_0 := by decide +kernel
theorem dksX51_limit_1 : cX51_limit.data.toList.drop 22 = dktX51_limit_1 := dk_seg dksX51_limit_0 22 rfl rfl
theorem dksX51_limit_2 : cX51_limit.data.toList.drop 46 = dktX51_limit_2 := dk_seg dksX51_limit_1 24 rfl rfl
theorem dksX51_limit_3 : cX51_limit.data.toList.drop 70 = dktX51_limit_3 := dk_seg dksX51_limit_2 24 rfl rfl
theorem dksX51_limit_4 : cX51_limit.data.toList.drop 94 = dktX51_limit_4 := dk_seg dksX51_limit_3 24 rfl rfl
theorem dksX51_limit_5 : cX51_limit.data.toList.drop 116 = dktX51_limit_5 := dk_seg dksX51_limit_4 22 rfl rfl
theorem dksX51_limit_6 : cX51_limit.data.toList.drop 138 = dktX51_limit_6 := dk_seg dksX51_limit_5 22 rfl rfl
theorem dX51_limit_0 : decode cX51_limit 0 = .ok (.aload_n 0, 1) := dk_42 (dk_at dksX51_limit_0 0 rfl rfl)
theorem dX51_limit_1 : decode cX51_limit 1 = .ok (.iconst 0, 1) := dk_3 (dk_at dksX51_limit_0 1 rfl rfl)
theorem dX51_limit_2 : decode cX51_limit 2 = .ok (.putfield 68, 3) := dk_181 0 68 (dk_at dksX51_limit_0 2 rfl rfl)
theorem dX51_limit_5 : decode cX51_limit 5 = .ok (.ldc2_w 253, 3) := dk_20 0 253 (dk_at dksX51_limit_0 5 rfl rfl)
theorem dX51_limit_8 : decode cX51_limit 8 = .ok (.lstore_n 2, 1) := dk_65 (dk_at dksX51_limit_0 8 rfl rfl)
theorem dX51_limit_9 : decode cX51_limit 9 = .ok (.iconst 0, 1) := dk_3 (dk_at dksX51_limit_0 9 rfl rfl)
theorem dX51_limit_10 : decode cX51_limit 10 = .ok (.istore 4, 2) := dk_54 4 (dk_at dksX51_limit_0 10 rfl rfl)
theorem dX51_limit_12 : decode cX51_limit 12 = .ok (.iload 4, 2) := dk_21 4 (dk_at dksX51_limit_0 12 rfl rfl)
theorem dX51_limit_14 : decode cX51_limit 14 = .ok (.aload_n 0, 1) := dk_42 (dk_at dksX51_limit_0 14 rfl rfl)
theorem dX51_limit_15 : decode cX51_limit 15 = .ok (.getfield 162, 3) := dk_180 0 162 (dk_at dksX51_limit_0 15 rfl rfl)
theorem dX51_limit_18 : decode cX51_limit 18 = .ok (.if_icmp .ge 134, 3) := dk_162 0 134 (dk_at dksX51_limit_0 18 rfl rfl)
theorem dX51_limit_21 : decode cX51_limit 21 = .ok (.aload_n 0, 1) := dk_42 (dk_at dksX51_limit_0 21 rfl rfl)
theorem dX51_limit_22 : decode cX51_limit 22 = .ok (.getfield 55, 3) := dk_180 0 55 (dk_at dksX51_limit_1 0 rfl rfl)
theorem dX51_limit_25 : decode cX51_limit 25 = .ok (.iconst (-1), 1) := dk_2 (dk_at dksX51_limit_1 3 rfl rfl)
theorem dX51_limit_26 : decode cX51_limit 26 = .ok (.if_icmp .eq 126, 3) := dk_159 0 126 (dk_at dksX51_limit_1 4 rfl rfl)
theorem dX51_limit_29 : decode cX51_limit 29 = .ok (.aload_n 0, 1) := dk_42 (dk_at dksX51_limit_1 7 rfl rfl)
theorem dX51_limit_30 : decode cX51_limit 30 = .ok (.getfield 32, 3) := dk_180 0 32 (dk_at dksX51_limit_1 8 rfl rfl)
theorem dX51_limit_33 : decode cX51_limit 33 = .ok (.iload 4, 2) := dk_21 4 (dk_at dksX51_limit_1 11 rfl rfl)
theorem dX51_limit_35 : decode cX51_limit 35 = .ok (.iaload, 1) := dk_46 (dk_at dksX51_limit_1 13 rfl rfl)
theorem dX51_limit_36 : decode cX51_limit 36 = .ok (.aload_n 0, 1) := dk_42 (dk_at dksX51_limit_1 14 rfl rfl)
theorem dX51_limit_37 : decode cX51_limit 37 = .ok (.getfield 55, 3) := dk_180 0 55 (dk_at dksX51_limit_1 15 rfl rfl)
theorem dX51_limit_40 : decode cX51_limit 40 = .ok (.if_icmp .ne 106, 3) := dk_160 0 106 (dk_at dksX51_limit_1 18 rfl rfl)
theorem dX51_limit_43 : decode cX51_limit 43 = .ok (.aload_n 0, 1) := dk_42 (dk_at dksX51_limit_1 21 rfl rfl)
theorem dX51_limit_44 : decode cX51_limit 44 = .ok (.iload 4, 2) := dk_21 4 (dk_at dksX51_limit_1 22 rfl rfl)
theorem dX51_limit_46 : decode cX51_limit 46 = .ok (.invokevirtual 198, 3) := dk_182 0 198 (dk_at dksX51_limit_2 0 rfl rfl)
theorem dX51_limit_49 : decode cX51_limit 49 = .ok (.iload_n 1, 1) := dk_27 (dk_at dksX51_limit_2 3 rfl rfl)
theorem dX51_limit_50 : decode cX51_limit 50 = .ok (.if_icmp .ne 96, 3) := dk_160 0 96 (dk_at dksX51_limit_2 4 rfl rfl)
theorem dX51_limit_53 : decode cX51_limit 53 = .ok (.aload_n 0, 1) := dk_42 (dk_at dksX51_limit_2 7 rfl rfl)
theorem dX51_limit_54 : decode cX51_limit 54 = .ok (.iload 4, 2) := dk_21 4 (dk_at dksX51_limit_2 8 rfl rfl)
theorem dX51_limit_56 : decode cX51_limit 56 = .ok (.invokevirtual 201, 3) := dk_182 0 201 (dk_at dksX51_limit_2 10 rfl rfl)
theorem dX51_limit_59 : decode cX51_limit 59 = .ok (.istore 5, 2) := dk_54 5 (dk_at dksX51_limit_2 13 rfl rfl)
theorem dX51_limit_61 : decode cX51_limit 61 = .ok (.iload 5, 2) := dk_21 5 (dk_at dksX51_limit_2 15 rfl rfl)
theorem dX51_limit_63 : decode cX51_limit 63 = .ok (.iconst (-1), 1) := dk_2 (dk_at dksX51_limit_2 17 rfl rfl)
theorem dX51_limit_64 : decode cX51_limit 64 = .ok (.if_icmp .eq 82, 3) := dk_159 0 82 (dk_at dksX51_limit_2 18 rfl rfl)
theorem dX51_limit_67 : decode cX51_limit 67 = .ok (.aload_n 0, 1) := dk_42 (dk_at dksX51_limit_2 21 rfl rfl)
theorem dX51_limit_68 : decode cX51_limit 68 = .ok (.iload 5, 2) := dk_21 5 (dk_at dksX51_limit_2 22 rfl rfl)
theorem dX51_limit_70 : decode cX51_limit 70 = .ok (.ldc2_w 132, 3) := dk_20 0 132 (dk_at dksX51_limit_3 0 rfl rfl)
theorem dX51_limit_73 : decode cX51_limit 73 = .ok (.invokevirtual 168, 3) := dk_182 0 168 (dk_at dksX51_limit_3 3 rfl rfl)
theorem dX51_limit_76 : decode cX51_limit 76 = .ok (.ifCond .eq 59, 3) := dk_153 0 59 (dk_at dksX51_limit_3 6 rfl rfl)
theorem dX51_limit_79 : decode cX51_limit 79 = .ok (.aload_n 0, 1) := dk_42 (dk_at dksX51_limit_3 9 rfl rfl)
theorem dX51_limit_80 : decode cX51_limit 80 = .ok (.iload 5, 2) := dk_21 5 (dk_at dksX51_limit_3 10 rfl rfl)
theorem dX51_limit_82 : decode cX51_limit 82 = .ok (.iconst 1, 1) := dk_4 (dk_at dksX51_limit_3 12 rfl rfl)
theorem dX51_limit_83 : decode cX51_limit 83 = .ok (.iconst (-1), 1) := dk_2 (dk_at dksX51_limit_3 13 rfl rfl)
theorem dX51_limit_84 : decode cX51_limit 84 = .ok (.invokevirtual 194, 3) := dk_182 0 194 (dk_at dksX51_limit_3 14 rfl rfl)
theorem dX51_limit_87 : decode cX51_limit 87 = .ok (.aload_n 0, 1) := dk_42 (dk_at dksX51_limit_3 17 rfl rfl)
theorem dX51_limit_88 : decode cX51_limit 88 = .ok (.aload_n 0, 1) := dk_42 (dk_at dksX51_limit_3 18 rfl rfl)
theorem dX51_limit_89 : decode cX51_limit 89 = .ok (.getfield 191, 3) := dk_180 0 191 (dk_at dksX51_limit_3 19 rfl rfl)
theorem dX51_limit_92 : decode cX51_limit 92 = .ok (.iconst 1, 1) := dk_4 (dk_at dksX51_limit_3 22 rfl rfl)
theorem dX51_limit_93 : decode cX51_limit 93 = .ok (.iadd, 1) := dk_96 (dk_at dksX51_limit_3 23 rfl rfl)
theorem dX51_limit_94 : decode cX51_limit 94 = .ok (.invokevirtual 172, 3) := dk_182 0 172 (dk_at dksX51_limit_4 0 rfl rfl)
theorem dX51_limit_97 : decode cX51_limit 97 = .ok (.istore 6, 2) := dk_54 6 (dk_at dksX51_limit_4 3 rfl rfl)
theorem dX51_limit_99 : decode cX51_limit 99 = .ok (.aload_n 0, 1) := dk_42 (dk_at dksX51_limit_4 5 rfl rfl)
theorem dX51_limit_100 : decode cX51_limit 100 = .ok (.aload_n 0, 1) := dk_42 (dk_at dksX51_limit_4 6 rfl rfl)
theorem dX51_limit_101 : decode cX51_limit 101 = .ok (.getfield 191, 3) := dk_180 0 191 (dk_at dksX51_limit_4 7 rfl rfl)
theorem dX51_limit_104 : decode cX51_limit 104 = .ok (.ldc2_w 120, 3) := dk_20 0 120 (dk_at dksX51_limit_4 10 rfl rfl)
theorem dX51_limit_107 : decode cX51_limit 107 = .ok (.invokevirtual 168, 3) := dk_182 0 168 (dk_at dksX51_limit_4 13 rfl rfl)
theorem dX51_limit_110 : decode cX51_limit 110 = .ok (.ifCond .eq 23, 3) := dk_153 0 23 (dk_at dksX51_limit_4 16 rfl rfl)
theorem dX51_limit_113 : decode cX51_limit 113 = .ok (.lload_n 2, 1) := dk_32 (dk_at dksX51_limit_4 19 rfl rfl)
theorem dX51_limit_114 : decode cX51_limit 114 = .ok (.lconst 0, 1) := dk_9 (dk_at dksX51_limit_4 20 rfl rfl)
theorem dX51_limit_115 : decode cX51_limit 115 = .ok (.lcmp, 1) := dk_148 (dk_at dksX51_limit_4 21 rfl rfl)
theorem dX51_limit_116 : decode cX51_limit 116 = .ok (.ifCond .lt 11, 3) := dk_155 0 11 (dk_at dksX51_limit_5 0 rfl rfl)
theorem dX51_limit_119 : decode cX51_limit 119 = .ok (.iload 6, 2) := dk_21 6 (dk_at dksX51_limit_5 3 rfl rfl)
theorem dX51_limit_121 : decode cX51_limit 121 = .ok (.i2l, 1) := dk_133 (dk_at dksX51_limit_5 5 rfl rfl)
theorem dX51_limit_122 : decode cX51_limit 122 = .ok (.lload_n 2, 1) := dk_32 (dk_at dksX51_limit_5 6 rfl rfl)
theorem dX51_limit_123 : decode cX51_limit 123 = .ok (.lcmp, 1) := dk_148 (dk_at dksX51_limit_5 7 rfl rfl)
theorem dX51_limit_124 : decode cX51_limit 124 = .ok (.ifCond .ge 9, 3) := dk_156 0 9 (dk_at dksX51_limit_5 8 rfl rfl)
theorem dX51_limit_127 : decode cX51_limit 127 = .ok (.iload 6, 2) := dk_21 6 (dk_at dksX51_limit_5 11 rfl rfl)
theorem dX51_limit_129 : decode cX51_limit 129 = .ok (.i2l, 1) := dk_133 (dk_at dksX51_limit_5 13 rfl rfl)
theorem dX51_limit_130 : decode cX51_limit 130 = .ok (.goto 4, 3) := dk_167 0 4 (dk_at dksX51_limit_5 14 rfl rfl)
theorem dX51_limit_133 : decode cX51_limit 133 = .ok (.lload_n 2, 1) := dk_32 (dk_at dksX51_limit_5 17 rfl rfl)
theorem dX51_limit_134 : decode cX51_limit 134 = .ok (.lstore_n 2, 1) := dk_65 (dk_at dksX51_limit_5 18 rfl rfl)
theorem dX51_limit_135 : decode cX51_limit 135 = .ok (.aload_n 0, 1) := dk_42 (dk_at dksX51_limit_5 19 rfl rfl)
theorem dX51_limit_136 : decode cX51_limit 136 = .ok (.iload 5, 2) := dk_21 5 (dk_at dksX51_limit_5 20 rfl rfl)
theorem dX51_limit_138 : decode cX51_limit 138 = .ok (.invokevirtual 204, 3) := dk_182 0 204 (dk_at dksX51_limit_6 0 rfl rfl)
theorem dX51_limit_141 : decode cX51_limit 141 = .ok (.istore 5, 2) := dk_54 5 (dk_at dksX51_limit_6 3 rfl rfl)
theorem dX51_limit_143 : decode cX51_limit 143 = .ok (.goto (-82), 3) := dk_167 255 174 (dk_at dksX51_limit_6 5 rfl rfl)
theorem dX51_limit_146 : decode cX51_limit 146 = .ok (.iinc 4 1, 3) := dk_132 4 1 (dk_at dksX51_limit_6 8 rfl rfl)
theorem dX51_limit_149 : decode cX51_limit 149 = .ok (.goto (-137), 3) := dk_167 255 119 (dk_at dksX51_limit_6 11 rfl rfl)
theorem dX51_limit_152 : decode cX51_limit 152 = .ok (.lload_n 2, 1) := dk_32 (dk_at dksX51_limit_6 14 rfl rfl)
theorem dX51_limit_153 : decode cX51_limit 153 = .ok (.lreturn, 1) := dk_173 (dk_at dksX51_limit_6 15 rfl rfl)
abbrev cX51_sum : ByteArray := prog_60_method_49_code
def yX51_sum : MethodName := ⟨RX51, "sum", "(III)J"⟩
def dkwX51_sum_4 : List UInt8 := [167, 0, 4, 9, 173, 42, 21, 4, 182, 0, 204, 54, 4, 167, 255, 196, 9, 173]
abbrev dktX51_sum_4 : List UInt8 := dkwX51_sum_4 ++ []
def dkwX51_sum_3 : List UInt8 := [160, 0, 7, 4, 167, 0, 4, 3, 29, 182, 0, 194, 42, 180, 0, 188, 2, 160, 0, 10, 42, 180, 0, 184]
abbrev dktX51_sum_3 : List UInt8 := dkwX51_sum_3 ++ dktX51_sum_4
def dkwX51_sum_2 : List UInt8 := [21, 4, 2, 159, 0, 60, 42, 21, 4, 20, 0, 132, 182, 0, 168, 153, 0, 37, 42, 21, 4, 28, 4]
abbrev dktX51_sum_2 : List UInt8 := dkwX51_sum_2 ++ dktX51_sum_3
def dkwX51_sum_1 : List UInt8 := [163, 0, 14, 29, 2, 161, 0, 9, 29, 16, 15, 164, 0, 5, 9, 173, 42, 27, 182, 0, 201, 54, 4]
abbrev dktX51_sum_1 : List UInt8 := dkwX51_sum_1 ++ dktX51_sum_2
def dkwX51_sum_0 : List UInt8 := [42, 3, 181, 0, 68, 27, 155, 0, 31, 27, 42, 180, 0, 162, 162, 0, 23, 28, 155, 0, 19, 28, 4]
abbrev dktX51_sum_0 : List UInt8 := dkwX51_sum_0 ++ dktX51_sum_1
theorem dksX51_sum_0 : cX51_sum.data.toList.drop 0 = dktX51_sum_0 := by decide +kernel
theorem dksX51_sum_1 : cX51_sum.data.toList.drop 23 = dktX51_sum_1 := dk_seg dksX51_sum_0 23 rfl rfl
theorem dksX51_sum_2 : cX51_sum.data.toList.drop 46 = dktX51_sum_2 := dk_seg dksX51_sum_1 23 rfl rfl
theorem dksX51_sum_3 : cX51_sum.data.toList.drop 69 = dktX51_sum_3 := dk_seg dksX51_sum_2 23 rfl rfl
theorem dksX51_sum_4 : cX51_sum.data.toList.drop 93 = dktX51_sum_4 := dk_seg dksX51_sum_3 24 rfl rfl
theorem dX51_sum_0 : decode cX51_sum 0 = .ok (.aload_n 0, 1) := dk_42 (dk_at dksX51_sum_0 0 rfl rfl)
theorem dX51_sum_1 : decode cX51_sum 1 = .ok (.iconst 0, 1) := dk_3 (dk_at dksX51_sum_0 1 rfl rfl)
theorem dX51_sum_2 : decode cX51_sum 2 = .ok (.putfield 68, 3) := dk_181 0 68 (dk_at dksX51_sum_0 2 rfl rfl)
theorem dX51_sum_5 : decode cX51_sum 5 = .ok (.iload_n 1, 1) := dk_27 (dk_at dksX51_sum_0 5 rfl rfl)
theorem dX51_sum_6 : decode cX51_sum 6 = .ok (.ifCond .lt 31, 3) := dk_155 0 31 (dk_at dksX51_sum_0 6 rfl rfl)
theorem dX51_sum_9 : decode cX51_sum 9 = .ok (.iload_n 1, 1) := dk_27 (dk_at dksX51_sum_0 9 rfl rfl)
theorem dX51_sum_10 : decode cX51_sum 10 = .ok (.aload_n 0, 1) := dk_42 (dk_at dksX51_sum_0 10 rfl rfl)
theorem dX51_sum_11 : decode cX51_sum 11 = .ok (.getfield 162, 3) := dk_180 0 162 (dk_at dksX51_sum_0 11 rfl rfl)
theorem dX51_sum_14 : decode cX51_sum 14 = .ok (.if_icmp .ge 23, 3) := dk_162 0 23 (dk_at dksX51_sum_0 14 rfl rfl)
theorem dX51_sum_17 : decode cX51_sum 17 = .ok (.iload_n 2, 1) := dk_28 (dk_at dksX51_sum_0 17 rfl rfl)
theorem dX51_sum_18 : decode cX51_sum 18 = .ok (.ifCond .lt 19, 3) := dk_155 0 19 (dk_at dksX51_sum_0 18 rfl rfl)
theorem dX51_sum_21 : decode cX51_sum 21 = .ok (.iload_n 2, 1) := dk_28 (dk_at dksX51_sum_0 21 rfl rfl)
theorem dX51_sum_22 : decode cX51_sum 22 = .ok (.iconst 1, 1) := dk_4 (dk_at dksX51_sum_0 22 rfl rfl)
theorem dX51_sum_23 : decode cX51_sum 23 = .ok (.if_icmp .gt 14, 3) := dk_163 0 14 (dk_at dksX51_sum_1 0 rfl rfl)
theorem dX51_sum_26 : decode cX51_sum 26 = .ok (.iload_n 3, 1) := dk_29 (dk_at dksX51_sum_1 3 rfl rfl)
theorem dX51_sum_27 : decode cX51_sum 27 = .ok (.iconst (-1), 1) := dk_2 (dk_at dksX51_sum_1 4 rfl rfl)
theorem dX51_sum_28 : decode cX51_sum 28 = .ok (.if_icmp .lt 9, 3) := dk_161 0 9 (dk_at dksX51_sum_1 5 rfl rfl)
theorem dX51_sum_31 : decode cX51_sum 31 = .ok (.iload_n 3, 1) := dk_29 (dk_at dksX51_sum_1 8 rfl rfl)
theorem dX51_sum_32 : decode cX51_sum 32 = .ok (.bipush 15, 2) := dk_16 15 (dk_at dksX51_sum_1 9 rfl rfl)
theorem dX51_sum_34 : decode cX51_sum 34 = .ok (.if_icmp .le 5, 3) := dk_164 0 5 (dk_at dksX51_sum_1 11 rfl rfl)
theorem dX51_sum_37 : decode cX51_sum 37 = .ok (.lconst 0, 1) := dk_9 (dk_at dksX51_sum_1 14 rfl rfl)
theorem dX51_sum_38 : decode cX51_sum 38 = .ok (.lreturn, 1) := dk_173 (dk_at dksX51_sum_1 15 rfl rfl)
theorem dX51_sum_39 : decode cX51_sum 39 = .ok (.aload_n 0, 1) := dk_42 (dk_at dksX51_sum_1 16 rfl rfl)
theorem dX51_sum_40 : decode cX51_sum 40 = .ok (.iload_n 1, 1) := dk_27 (dk_at dksX51_sum_1 17 rfl rfl)
theorem dX51_sum_41 : decode cX51_sum 41 = .ok (.invokevirtual 201, 3) := dk_182 0 201 (dk_at dksX51_sum_1 18 rfl rfl)
theorem dX51_sum_44 : decode cX51_sum 44 = .ok (.istore 4, 2) := dk_54 4 (dk_at dksX51_sum_1 21 rfl rfl)
theorem dX51_sum_46 : decode cX51_sum 46 = .ok (.iload 4, 2) := dk_21 4 (dk_at dksX51_sum_2 0 rfl rfl)
theorem dX51_sum_48 : decode cX51_sum 48 = .ok (.iconst (-1), 1) := dk_2 (dk_at dksX51_sum_2 2 rfl rfl)
theorem dX51_sum_49 : decode cX51_sum 49 = .ok (.if_icmp .eq 60, 3) := dk_159 0 60 (dk_at dksX51_sum_2 3 rfl rfl)
theorem dX51_sum_52 : decode cX51_sum 52 = .ok (.aload_n 0, 1) := dk_42 (dk_at dksX51_sum_2 6 rfl rfl)
theorem dX51_sum_53 : decode cX51_sum 53 = .ok (.iload 4, 2) := dk_21 4 (dk_at dksX51_sum_2 7 rfl rfl)
theorem dX51_sum_55 : decode cX51_sum 55 = .ok (.ldc2_w 132, 3) := dk_20 0 132 (dk_at dksX51_sum_2 9 rfl rfl)
theorem dX51_sum_58 : decode cX51_sum 58 = .ok (.invokevirtual 168, 3) := dk_182 0 168 (dk_at dksX51_sum_2 12 rfl rfl)
theorem dX51_sum_61 : decode cX51_sum 61 = .ok (.ifCond .eq 37, 3) := dk_153 0 37 (dk_at dksX51_sum_2 15 rfl rfl)
theorem dX51_sum_64 : decode cX51_sum 64 = .ok (.aload_n 0, 1) := dk_42 (dk_at dksX51_sum_2 18 rfl rfl)
theorem dX51_sum_65 : decode cX51_sum 65 = .ok (.iload 4, 2) := dk_21 4 (dk_at dksX51_sum_2 19 rfl rfl)
theorem dX51_sum_67 : decode cX51_sum 67 = .ok (.iload_n 2, 1) := dk_28 (dk_at dksX51_sum_2 21 rfl rfl)
theorem dX51_sum_68 : decode cX51_sum 68 = .ok (.iconst 1, 1) := dk_4 (dk_at dksX51_sum_2 22 rfl rfl)
theorem dX51_sum_69 : decode cX51_sum 69 = .ok (.if_icmp .ne 7, 3) := dk_160 0 7 (dk_at dksX51_sum_3 0 rfl rfl)
theorem dX51_sum_72 : decode cX51_sum 72 = .ok (.iconst 1, 1) := dk_4 (dk_at dksX51_sum_3 3 rfl rfl)
theorem dX51_sum_73 : decode cX51_sum 73 = .ok (.goto 4, 3) := dk_167 0 4 (dk_at dksX51_sum_3 4 rfl rfl)
theorem dX51_sum_76 : decode cX51_sum 76 = .ok (.iconst 0, 1) := dk_3 (dk_at dksX51_sum_3 7 rfl rfl)
theorem dX51_sum_77 : decode cX51_sum 77 = .ok (.iload_n 3, 1) := dk_29 (dk_at dksX51_sum_3 8 rfl rfl)
theorem dX51_sum_78 : decode cX51_sum 78 = .ok (.invokevirtual 194, 3) := dk_182 0 194 (dk_at dksX51_sum_3 9 rfl rfl)
theorem dX51_sum_81 : decode cX51_sum 81 = .ok (.aload_n 0, 1) := dk_42 (dk_at dksX51_sum_3 12 rfl rfl)
theorem dX51_sum_82 : decode cX51_sum 82 = .ok (.getfield 188, 3) := dk_180 0 188 (dk_at dksX51_sum_3 13 rfl rfl)
theorem dX51_sum_85 : decode cX51_sum 85 = .ok (.iconst (-1), 1) := dk_2 (dk_at dksX51_sum_3 16 rfl rfl)
theorem dX51_sum_86 : decode cX51_sum 86 = .ok (.if_icmp .ne 10, 3) := dk_160 0 10 (dk_at dksX51_sum_3 17 rfl rfl)
theorem dX51_sum_89 : decode cX51_sum 89 = .ok (.aload_n 0, 1) := dk_42 (dk_at dksX51_sum_3 20 rfl rfl)
theorem dX51_sum_90 : decode cX51_sum 90 = .ok (.getfield 184, 3) := dk_180 0 184 (dk_at dksX51_sum_3 21 rfl rfl)
theorem dX51_sum_93 : decode cX51_sum 93 = .ok (.goto 4, 3) := dk_167 0 4 (dk_at dksX51_sum_4 0 rfl rfl)
theorem dX51_sum_96 : decode cX51_sum 96 = .ok (.lconst 0, 1) := dk_9 (dk_at dksX51_sum_4 3 rfl rfl)
theorem dX51_sum_97 : decode cX51_sum 97 = .ok (.lreturn, 1) := dk_173 (dk_at dksX51_sum_4 4 rfl rfl)
theorem dX51_sum_98 : decode cX51_sum 98 = .ok (.aload_n 0, 1) := dk_42 (dk_at dksX51_sum_4 5 rfl rfl)
theorem dX51_sum_99 : decode cX51_sum 99 = .ok (.iload 4, 2) := dk_21 4 (dk_at dksX51_sum_4 6 rfl rfl)
theorem dX51_sum_101 : decode cX51_sum 101 = .ok (.invokevirtual 204, 3) := dk_182 0 204 (dk_at dksX51_sum_4 8 rfl rfl)
theorem dX51_sum_104 : decode cX51_sum 104 = .ok (.istore 4, 2) := dk_54 4 (dk_at dksX51_sum_4 11 rfl rfl)
theorem dX51_sum_106 : decode cX51_sum 106 = .ok (.goto (-60), 3) := dk_167 255 196 (dk_at dksX51_sum_4 13 rfl rfl)
theorem dX51_sum_109 : decode cX51_sum 109 = .ok (.lconst 0, 1) := dk_9 (dk_at dksX51_sum_4 16 rfl rfl)
theorem dX51_sum_110 : decode cX51_sum 110 = .ok (.lreturn, 1) := dk_173 (dk_at dksX51_sum_4 17 rfl rfl)
abbrev cX51_table : ByteArray := prog_60_method_50_code
def yX51_table : MethodName := ⟨RX51, "table", "(II)I"⟩
def dkwX51_table_3 : List UInt8 := [172, 132, 3, 1, 42, 21, 4, 182, 0, 204, 54, 4, 167, 255, 200, 42, 4, 181, 0, 68, 3, 172]
abbrev dktX51_table_3 : List UInt8 := dkwX51_table_3 ++ []
def dkwX51_table_2 : List UInt8 := [153, 0, 7, 3, 167, 0, 20, 42, 21, 4, 20, 0, 130, 182, 0, 168, 153, 0, 7, 4, 167, 0, 4, 5]
abbrev dktX51_table_2 : List UInt8 := dkwX51_table_2 ++ dktX51_table_3
def dkwX51_table_1 : List UInt8 := [54, 4, 21, 4, 2, 159, 0, 56, 29, 28, 160, 0, 37, 42, 21, 4, 20, 0, 124, 182, 0, 168]
abbrev dktX51_table_1 : List UInt8 := dkwX51_table_1 ++ dktX51_table_2
def dkwX51_table_0 : List UInt8 := [42, 3, 181, 0, 68, 3, 62, 27, 155, 0, 77, 27, 42, 180, 0, 162, 162, 0, 69, 42, 27, 182, 0, 201]
abbrev dktX51_table_0 : List UInt8 := dkwX51_table_0 ++ dktX51_table_1
theorem dksX51_table_0 : cX51_table.data.toList.drop 0 = dktX51_table_0 := by decide +kernel
theorem dksX51_table_1 : cX51_table.data.toList.drop 24 = dktX51_table_1 := dk_seg dksX51_table_0 24 rfl rfl
theorem dksX51_table_2 : cX51_table.data.toList.drop 46 = dktX51_table_2 := dk_seg dksX51_table_1 22 rfl rfl
theorem dksX51_table_3 : cX51_table.data.toList.drop 70 = dktX51_table_3 := dk_seg dksX51_table_2 24 rfl rfl
theorem dX51_table_0 : decode cX51_table 0 = .ok (.aload_n 0, 1) := dk_42 (dk_at dksX51_table_0 0 rfl rfl)
theorem dX51_table_1 : decode cX51_table 1 = .ok (.iconst 0, 1) := dk_3 (dk_at dksX51_table_0 1 rfl rfl)
theorem dX51_table_2 : decode cX51_table 2 = .ok (.putfield 68, 3) := dk_181 0 68 (dk_at dksX51_table_0 2 rfl rfl)
theorem dX51_table_5 : decode cX51_table 5 = .ok (.iconst 0, 1) := dk_3 (dk_at dksX51_table_0 5 rfl rfl)
theorem dX51_table_6 : decode cX51_table 6 = .ok (.istore_n 3, 1) := dk_62 (dk_at dksX51_table_0 6 rfl rfl)
theorem dX51_table_7 : decode cX51_table 7 = .ok (.iload_n 1, 1) := dk_27 (dk_at dksX51_table_0 7 rfl rfl)
theorem dX51_table_8 : decode cX51_table 8 = .ok (.ifCond .lt 77, 3) := dk_155 0 77 (dk_at dksX51_table_0 8 rfl rfl)
theorem dX51_table_11 : decode cX51_table 11 = .ok (.iload_n 1, 1) := dk_27 (dk_at dksX51_table_0 11 rfl rfl)
theorem dX51_table_12 : decode cX51_table 12 = .ok (.aload_n 0, 1) := dk_42 (dk_at dksX51_table_0 12 rfl rfl)
theorem dX51_table_13 : decode cX51_table 13 = .ok (.getfield 162, 3) := dk_180 0 162 (dk_at dksX51_table_0 13 rfl rfl)
theorem dX51_table_16 : decode cX51_table 16 = .ok (.if_icmp .ge 69, 3) := dk_162 0 69 (dk_at dksX51_table_0 16 rfl rfl)
theorem dX51_table_19 : decode cX51_table 19 = .ok (.aload_n 0, 1) := dk_42 (dk_at dksX51_table_0 19 rfl rfl)
theorem dX51_table_20 : decode cX51_table 20 = .ok (.iload_n 1, 1) := dk_27 (dk_at dksX51_table_0 20 rfl rfl)
theorem dX51_table_21 : decode cX51_table 21 = .ok (.invokevirtual 201, 3) := dk_182 0 201 (dk_at dksX51_table_0 21 rfl rfl)
theorem dX51_table_24 : decode cX51_table 24 = .ok (.istore 4, 2) := dk_54 4 (dk_at dksX51_table_1 0 rfl rfl)
theorem dX51_table_26 : decode cX51_table 26 = .ok (.iload 4, 2) := dk_21 4 (dk_at dksX51_table_1 2 rfl rfl)
theorem dX51_table_28 : decode cX51_table 28 = .ok (.iconst (-1), 1) := dk_2 (dk_at dksX51_table_1 4 rfl rfl)
theorem dX51_table_29 : decode cX51_table 29 = .ok (.if_icmp .eq 56, 3) := dk_159 0 56 (dk_at dksX51_table_1 5 rfl rfl)
theorem dX51_table_32 : decode cX51_table 32 = .ok (.iload_n 3, 1) := dk_29 (dk_at dksX51_table_1 8 rfl rfl)
theorem dX51_table_33 : decode cX51_table 33 = .ok (.iload_n 2, 1) := dk_28 (dk_at dksX51_table_1 9 rfl rfl)
theorem dX51_table_34 : decode cX51_table 34 = .ok (.if_icmp .ne 37, 3) := dk_160 0 37 (dk_at dksX51_table_1 10 rfl rfl)
theorem dX51_table_37 : decode cX51_table 37 = .ok (.aload_n 0, 1) := dk_42 (dk_at dksX51_table_1 13 rfl rfl)
theorem dX51_table_38 : decode cX51_table 38 = .ok (.iload 4, 2) := dk_21 4 (dk_at dksX51_table_1 14 rfl rfl)
theorem dX51_table_40 : decode cX51_table 40 = .ok (.ldc2_w 124, 3) := dk_20 0 124 (dk_at dksX51_table_1 16 rfl rfl)
theorem dX51_table_43 : decode cX51_table 43 = .ok (.invokevirtual 168, 3) := dk_182 0 168 (dk_at dksX51_table_1 19 rfl rfl)
theorem dX51_table_46 : decode cX51_table 46 = .ok (.ifCond .eq 7, 3) := dk_153 0 7 (dk_at dksX51_table_2 0 rfl rfl)
theorem dX51_table_49 : decode cX51_table 49 = .ok (.iconst 0, 1) := dk_3 (dk_at dksX51_table_2 3 rfl rfl)
theorem dX51_table_50 : decode cX51_table 50 = .ok (.goto 20, 3) := dk_167 0 20 (dk_at dksX51_table_2 4 rfl rfl)
theorem dX51_table_53 : decode cX51_table 53 = .ok (.aload_n 0, 1) := dk_42 (dk_at dksX51_table_2 7 rfl rfl)
theorem dX51_table_54 : decode cX51_table 54 = .ok (.iload 4, 2) := dk_21 4 (dk_at dksX51_table_2 8 rfl rfl)
theorem dX51_table_56 : decode cX51_table 56 = .ok (.ldc2_w 130, 3) := dk_20 0 130 (dk_at dksX51_table_2 10 rfl rfl)
theorem dX51_table_59 : decode cX51_table 59 = .ok (.invokevirtual 168, 3) := dk_182 0 168 (dk_at dksX51_table_2 13 rfl rfl)
theorem dX51_table_62 : decode cX51_table 62 = .ok (.ifCond .eq 7, 3) := dk_153 0 7 (dk_at dksX51_table_2 16 rfl rfl)
theorem dX51_table_65 : decode cX51_table 65 = .ok (.iconst 1, 1) := dk_4 (dk_at dksX51_table_2 19 rfl rfl)
theorem dX51_table_66 : decode cX51_table 66 = .ok (.goto 4, 3) := dk_167 0 4 (dk_at dksX51_table_2 20 rfl rfl)
theorem dX51_table_69 : decode cX51_table 69 = .ok (.iconst 2, 1) := dk_5 (dk_at dksX51_table_2 23 rfl rfl)
theorem dX51_table_70 : decode cX51_table 70 = .ok (.ireturn, 1) := dk_172 (dk_at dksX51_table_3 0 rfl rfl)
theorem dX51_table_71 : decode cX51_table 71 = .ok (.iinc 3 1, 3) := dk_132 3 1 (dk_at dksX51_table_3 1 rfl rfl)
theorem dX51_table_74 : decode cX51_table 74 = .ok (.aload_n 0, 1) := dk_42 (dk_at dksX51_table_3 4 rfl rfl)
theorem dX51_table_75 : decode cX51_table 75 = .ok (.iload 4, 2) := dk_21 4 (dk_at dksX51_table_3 5 rfl rfl)
theorem dX51_table_77 : decode cX51_table 77 = .ok (.invokevirtual 204, 3) := dk_182 0 204 (dk_at dksX51_table_3 7 rfl rfl)
theorem dX51_table_80 : decode cX51_table 80 = .ok (.istore 4, 2) := dk_54 4 (dk_at dksX51_table_3 10 rfl rfl)
theorem dX51_table_82 : decode cX51_table 82 = .ok (.goto (-56), 3) := dk_167 255 200 (dk_at dksX51_table_3 12 rfl rfl)
theorem dX51_table_85 : decode cX51_table 85 = .ok (.aload_n 0, 1) := dk_42 (dk_at dksX51_table_3 15 rfl rfl)
theorem dX51_table_86 : decode cX51_table 86 = .ok (.iconst 1, 1) := dk_4 (dk_at dksX51_table_3 16 rfl rfl)
theorem dX51_table_87 : decode cX51_table 87 = .ok (.putfield 68, 3) := dk_181 0 68 (dk_at dksX51_table_3 17 rfl rfl)
theorem dX51_table_90 : decode cX51_table 90 = .ok (.iconst 0, 1) := dk_3 (dk_at dksX51_table_3 20 rfl rfl)
theorem dX51_table_91 : decode cX51_table 91 = .ok (.ireturn, 1) := dk_172 (dk_at dksX51_table_3 21 rfl rfl)
abbrev cX51_write : ByteArray := prog_60_method_20_code
def yX51_write : MethodName := ⟨RX51, "write", "(I)I"⟩
def dkwX51_write_4 : List UInt8 := [132, 3, 1, 167, 255, 169, 2, 172]
abbrev dktX51_write_4 : List UInt8 := dkwX51_write_4 ++ []
def dkwX51_write_3 : List UInt8 := [160, 0, 16, 29, 4, 96, 42, 180, 0, 159, 162, 0, 6, 16, 32, 172, 28, 21, 4, 4, 96, 96, 61]
abbrev dktX51_write_3 : List UInt8 := dkwX51_write_3 ++ dktX51_write_4
def dkwX51_write_2 : List UInt8 := [180, 0, 13, 42, 180, 0, 16, 29, 46, 27, 96, 28, 100, 51, 17, 0, 255, 126, 172, 27, 28, 21, 4, 96]
abbrev dktX51_write_2 : List UInt8 := dkwX51_write_2 ++ dktX51_write_3
def dkwX51_write_1 : List UInt8 := [180, 0, 16, 29, 46, 100, 54, 4, 27, 28, 161, 0, 31, 27, 28, 21, 4, 96, 162, 0, 23, 42]
abbrev dktX51_write_1 : List UInt8 := dkwX51_write_1 ++ dktX51_write_2
def dkwX51_write_0 : List UInt8 := [42, 3, 181, 0, 68, 3, 61, 3, 62, 29, 42, 180, 0, 159, 162, 0, 85, 42, 180, 0, 20, 29, 46, 42]
abbrev dktX51_write_0 : List UInt8 := dkwX51_write_0 ++ dktX51_write_1
theorem dksX51_write_0 : cX51_write.data.toList.drop 0 = dktX51_write_0 := by decide +kernel
theorem dksX51_write_1 : cX51_write.data.toList.drop 24 = dktX51_write_1 := dk_seg dksX51_write_0 24 rfl rfl
theorem dksX51_write_2 : cX51_write.data.toList.drop 46 = dktX51_write_2 := dk_seg dksX51_write_1 22 rfl rfl
theorem dksX51_write_3 : cX51_write.data.toList.drop 70 = dktX51_write_3 := dk_seg dksX51_write_2 24 rfl rfl
theorem dksX51_write_4 : cX51_write.data.toList.drop 93 = dktX51_write_4 := dk_seg dksX51_write_3 23 rfl rfl
theorem dX51_write_0 : decode cX51_write 0 = .ok (.aload_n 0, 1) := dk_42 (dk_at dksX51_write_0 0 rfl rfl)
theorem dX51_write_1 : decode cX51_write 1 = .ok (.iconst 0, 1) := dk_3 (dk_at dksX51_write_0 1 rfl rfl)
theorem dX51_write_2 : decode cX51_write 2 = .ok (.putfield 68, 3) := dk_181 0 68 (dk_at dksX51_write_0 2 rfl rfl)
theorem dX51_write_5 : decode cX51_write 5 = .ok (.iconst 0, 1) := dk_3 (dk_at dksX51_write_0 5 rfl rfl)
theorem dX51_write_6 : decode cX51_write 6 = .ok (.istore_n 2, 1) := dk_61 (dk_at dksX51_write_0 6 rfl rfl)
theorem dX51_write_7 : decode cX51_write 7 = .ok (.iconst 0, 1) := dk_3 (dk_at dksX51_write_0 7 rfl rfl)
theorem dX51_write_8 : decode cX51_write 8 = .ok (.istore_n 3, 1) := dk_62 (dk_at dksX51_write_0 8 rfl rfl)
theorem dX51_write_9 : decode cX51_write 9 = .ok (.iload_n 3, 1) := dk_29 (dk_at dksX51_write_0 9 rfl rfl)
theorem dX51_write_10 : decode cX51_write 10 = .ok (.aload_n 0, 1) := dk_42 (dk_at dksX51_write_0 10 rfl rfl)
theorem dX51_write_11 : decode cX51_write 11 = .ok (.getfield 159, 3) := dk_180 0 159 (dk_at dksX51_write_0 11 rfl rfl)
theorem dX51_write_14 : decode cX51_write 14 = .ok (.if_icmp .ge 85, 3) := dk_162 0 85 (dk_at dksX51_write_0 14 rfl rfl)
theorem dX51_write_17 : decode cX51_write 17 = .ok (.aload_n 0, 1) := dk_42 (dk_at dksX51_write_0 17 rfl rfl)
theorem dX51_write_18 : decode cX51_write 18 = .ok (.getfield 20, 3) := dk_180 0 20 (dk_at dksX51_write_0 18 rfl rfl)
theorem dX51_write_21 : decode cX51_write 21 = .ok (.iload_n 3, 1) := dk_29 (dk_at dksX51_write_0 21 rfl rfl)
theorem dX51_write_22 : decode cX51_write 22 = .ok (.iaload, 1) := dk_46 (dk_at dksX51_write_0 22 rfl rfl)
theorem dX51_write_23 : decode cX51_write 23 = .ok (.aload_n 0, 1) := dk_42 (dk_at dksX51_write_0 23 rfl rfl)
theorem dX51_write_24 : decode cX51_write 24 = .ok (.getfield 16, 3) := dk_180 0 16 (dk_at dksX51_write_1 0 rfl rfl)
theorem dX51_write_27 : decode cX51_write 27 = .ok (.iload_n 3, 1) := dk_29 (dk_at dksX51_write_1 3 rfl rfl)
theorem dX51_write_28 : decode cX51_write 28 = .ok (.iaload, 1) := dk_46 (dk_at dksX51_write_1 4 rfl rfl)
theorem dX51_write_29 : decode cX51_write 29 = .ok (.isub, 1) := dk_100 (dk_at dksX51_write_1 5 rfl rfl)
theorem dX51_write_30 : decode cX51_write 30 = .ok (.istore 4, 2) := dk_54 4 (dk_at dksX51_write_1 6 rfl rfl)
theorem dX51_write_32 : decode cX51_write 32 = .ok (.iload_n 1, 1) := dk_27 (dk_at dksX51_write_1 8 rfl rfl)
theorem dX51_write_33 : decode cX51_write 33 = .ok (.iload_n 2, 1) := dk_28 (dk_at dksX51_write_1 9 rfl rfl)
theorem dX51_write_34 : decode cX51_write 34 = .ok (.if_icmp .lt 31, 3) := dk_161 0 31 (dk_at dksX51_write_1 10 rfl rfl)
theorem dX51_write_37 : decode cX51_write 37 = .ok (.iload_n 1, 1) := dk_27 (dk_at dksX51_write_1 13 rfl rfl)
theorem dX51_write_38 : decode cX51_write 38 = .ok (.iload_n 2, 1) := dk_28 (dk_at dksX51_write_1 14 rfl rfl)
theorem dX51_write_39 : decode cX51_write 39 = .ok (.iload 4, 2) := dk_21 4 (dk_at dksX51_write_1 15 rfl rfl)
theorem dX51_write_41 : decode cX51_write 41 = .ok (.iadd, 1) := dk_96 (dk_at dksX51_write_1 17 rfl rfl)
theorem dX51_write_42 : decode cX51_write 42 = .ok (.if_icmp .ge 23, 3) := dk_162 0 23 (dk_at dksX51_write_1 18 rfl rfl)
theorem dX51_write_45 : decode cX51_write 45 = .ok (.aload_n 0, 1) := dk_42 (dk_at dksX51_write_1 21 rfl rfl)
theorem dX51_write_46 : decode cX51_write 46 = .ok (.getfield 13, 3) := dk_180 0 13 (dk_at dksX51_write_2 0 rfl rfl)
theorem dX51_write_49 : decode cX51_write 49 = .ok (.aload_n 0, 1) := dk_42 (dk_at dksX51_write_2 3 rfl rfl)
theorem dX51_write_50 : decode cX51_write 50 = .ok (.getfield 16, 3) := dk_180 0 16 (dk_at dksX51_write_2 4 rfl rfl)
theorem dX51_write_53 : decode cX51_write 53 = .ok (.iload_n 3, 1) := dk_29 (dk_at dksX51_write_2 7 rfl rfl)
theorem dX51_write_54 : decode cX51_write 54 = .ok (.iaload, 1) := dk_46 (dk_at dksX51_write_2 8 rfl rfl)
theorem dX51_write_55 : decode cX51_write 55 = .ok (.iload_n 1, 1) := dk_27 (dk_at dksX51_write_2 9 rfl rfl)
theorem dX51_write_56 : decode cX51_write 56 = .ok (.iadd, 1) := dk_96 (dk_at dksX51_write_2 10 rfl rfl)
theorem dX51_write_57 : decode cX51_write 57 = .ok (.iload_n 2, 1) := dk_28 (dk_at dksX51_write_2 11 rfl rfl)
theorem dX51_write_58 : decode cX51_write 58 = .ok (.isub, 1) := dk_100 (dk_at dksX51_write_2 12 rfl rfl)
theorem dX51_write_59 : decode cX51_write 59 = .ok (.baload, 1) := dk_51 (dk_at dksX51_write_2 13 rfl rfl)
theorem dX51_write_60 : decode cX51_write 60 = .ok (.sipush 255, 3) := dk_17 0 255 (dk_at dksX51_write_2 14 rfl rfl)
theorem dX51_write_63 : decode cX51_write 63 = .ok (.iand, 1) := dk_126 (dk_at dksX51_write_2 17 rfl rfl)
theorem dX51_write_64 : decode cX51_write 64 = .ok (.ireturn, 1) := dk_172 (dk_at dksX51_write_2 18 rfl rfl)
theorem dX51_write_65 : decode cX51_write 65 = .ok (.iload_n 1, 1) := dk_27 (dk_at dksX51_write_2 19 rfl rfl)
theorem dX51_write_66 : decode cX51_write 66 = .ok (.iload_n 2, 1) := dk_28 (dk_at dksX51_write_2 20 rfl rfl)
theorem dX51_write_67 : decode cX51_write 67 = .ok (.iload 4, 2) := dk_21 4 (dk_at dksX51_write_2 21 rfl rfl)
theorem dX51_write_69 : decode cX51_write 69 = .ok (.iadd, 1) := dk_96 (dk_at dksX51_write_2 23 rfl rfl)
theorem dX51_write_70 : decode cX51_write 70 = .ok (.if_icmp .ne 16, 3) := dk_160 0 16 (dk_at dksX51_write_3 0 rfl rfl)
theorem dX51_write_73 : decode cX51_write 73 = .ok (.iload_n 3, 1) := dk_29 (dk_at dksX51_write_3 3 rfl rfl)
theorem dX51_write_74 : decode cX51_write 74 = .ok (.iconst 1, 1) := dk_4 (dk_at dksX51_write_3 4 rfl rfl)
theorem dX51_write_75 : decode cX51_write 75 = .ok (.iadd, 1) := dk_96 (dk_at dksX51_write_3 5 rfl rfl)
theorem dX51_write_76 : decode cX51_write 76 = .ok (.aload_n 0, 1) := dk_42 (dk_at dksX51_write_3 6 rfl rfl)
theorem dX51_write_77 : decode cX51_write 77 = .ok (.getfield 159, 3) := dk_180 0 159 (dk_at dksX51_write_3 7 rfl rfl)
theorem dX51_write_80 : decode cX51_write 80 = .ok (.if_icmp .ge 6, 3) := dk_162 0 6 (dk_at dksX51_write_3 10 rfl rfl)
theorem dX51_write_83 : decode cX51_write 83 = .ok (.bipush 32, 2) := dk_16 32 (dk_at dksX51_write_3 13 rfl rfl)
theorem dX51_write_85 : decode cX51_write 85 = .ok (.ireturn, 1) := dk_172 (dk_at dksX51_write_3 15 rfl rfl)
theorem dX51_write_86 : decode cX51_write 86 = .ok (.iload_n 2, 1) := dk_28 (dk_at dksX51_write_3 16 rfl rfl)
theorem dX51_write_87 : decode cX51_write 87 = .ok (.iload 4, 2) := dk_21 4 (dk_at dksX51_write_3 17 rfl rfl)
theorem dX51_write_89 : decode cX51_write 89 = .ok (.iconst 1, 1) := dk_4 (dk_at dksX51_write_3 19 rfl rfl)
theorem dX51_write_90 : decode cX51_write 90 = .ok (.iadd, 1) := dk_96 (dk_at dksX51_write_3 20 rfl rfl)
theorem dX51_write_91 : decode cX51_write 91 = .ok (.iadd, 1) := dk_96 (dk_at dksX51_write_3 21 rfl rfl)
theorem dX51_write_92 : decode cX51_write 92 = .ok (.istore_n 2, 1) := dk_61 (dk_at dksX51_write_3 22 rfl rfl)
theorem dX51_write_93 : decode cX51_write 93 = .ok (.iinc 3 1, 3) := dk_132 3 1 (dk_at dksX51_write_4 0 rfl rfl)
theorem dX51_write_96 : decode cX51_write 96 = .ok (.goto (-87), 3) := dk_167 255 169 (dk_at dksX51_write_4 3 rfl rfl)
theorem dX51_write_99 : decode cX51_write 99 = .ok (.iconst (-1), 1) := dk_2 (dk_at dksX51_write_4 6 rfl rfl)
theorem dX51_write_100 : decode cX51_write 100 = .ok (.ireturn, 1) := dk_172 (dk_at dksX51_write_4 7 rfl rfl)
abbrev cX51_thrown : ByteArray := prog_60_method_2_code
def yX51_thrown : MethodName := ⟨RX51, "thrown", "()I"⟩
theorem dX51_thrown_0 : decode cX51_thrown 0 = .ok (.aload_n 0, 1) := by decide +kernel
theorem dX51_thrown_1 : decode cX51_thrown 1 = .ok (.getfield 68, 3) := by decide +kernel
theorem dX51_thrown_4 : decode cX51_thrown 4 = .ok (.ireturn, 1) := by decide +kernel
theorem q457 : (Jvm.Cond.initialized "WasteHouseModel$HazardRulesModel") ∈ lw_all := lw_g (lw_at lw_m1 65 rfl) rfl
theorem q2028 : (Jvm.Cond.selects "WasteHouseModel$HazardRulesModel" ({ cls := "java/lang/Object", name := "getClass", desc := "()Ljava/lang/Class;" } : Jvm.MethodName) ({ cls := "java/lang/Object", name := "getClass", desc := "()Ljava/lang/Class;" } : Jvm.MethodName)) ∈ lw_all := lw_g (lw_at lw_m7 196 rfl) rfl
theorem q3138 : (Jvm.Cond.selects "WasteHouseModel$HazardRulesModel" ({ cls := "java/lang/Object", name := "equals", desc := "(Ljava/lang/Object;)Z" } : Jvm.MethodName) ({ cls := "java/lang/Object", name := "equals", desc := "(Ljava/lang/Object;)Z" } : Jvm.MethodName)) ∈ lw_all := lw_g (lw_at lw_m12 106 rfl) rfl
theorem q3656 : (Jvm.Cond.selects "WasteHouseModel$HazardRulesModel" ({ cls := "java/lang/Object", name := "hashCode", desc := "()I" } : Jvm.MethodName) ({ cls := "java/lang/Object", name := "hashCode", desc := "()I" } : Jvm.MethodName)) ∈ lw_all := lw_g (lw_at lw_m14 144 rfl) rfl
theorem q6882 : (Jvm.Cond.instantiable "WasteHouseModel$HazardRulesModel" (29 : Nat)) ∈ lw_all := lw_g (lw_at lw_m28 10 rfl) rfl
theorem q6884 : (Jvm.Cond.instanceMethod ({ cls := "WasteHouseModel$HazardRulesModel", name := "<init>", desc := "()V" } : Jvm.MethodName)) ∈ lw_all := lw_g (lw_at lw_m28 12 rfl) rfl
theorem q6885 : (Jvm.Cond.code ({ cls := "WasteHouseModel$HazardRulesModel", name := "<init>", desc := "()V" } : Jvm.MethodName) prog_60_method_1_code (2 : Nat) (Option.none : Option Jvm.ClassFile.FieldType)) ∈ lw_all := lw_g (lw_at lw_m28 13 rfl) rfl
theorem q6886 : (Jvm.Cond.methodLink "WasteHouseModel$HazardRulesModel" (1 : Nat) ({ cls := "java/lang/Object", name := "<init>", desc := "()V" } : Jvm.MethodName)) ∈ lw_all := lw_g (lw_at lw_m28 14 rfl) rfl
theorem q6887 : (Jvm.Cond.fieldLink "WasteHouseModel$HazardRulesModel" (7 : Nat) "WasteHouseModel$HazardRulesModel" "coming" "[B") ∈ lw_all := lw_g (lw_at lw_m28 15 rfl) rfl
theorem q6888 : (Jvm.Cond.fieldLink "WasteHouseModel$HazardRulesModel" (71 : Nat) "WasteHouseModel$HazardRulesModel" "size" "I") ∈ lw_all := lw_g (lw_at lw_m28 16 rfl) rfl
theorem q6889 : (Jvm.Cond.fieldLink "WasteHouseModel$HazardRulesModel" (13 : Nat) "WasteHouseModel$HazardRulesModel" "kept" "[B") ∈ lw_all := lw_g (lw_at lw_m28 17 rfl) rfl
theorem q6890 : (Jvm.Cond.fieldLink "WasteHouseModel$HazardRulesModel" (16 : Nat) "WasteHouseModel$HazardRulesModel" "starts" "[I") ∈ lw_all := lw_g (lw_at lw_m28 18 rfl) rfl
theorem q6891 : (Jvm.Cond.fieldLink "WasteHouseModel$HazardRulesModel" (20 : Nat) "WasteHouseModel$HazardRulesModel" "ends" "[I") ∈ lw_all := lw_g (lw_at lw_m28 19 rfl) rfl
theorem q6892 : (Jvm.Cond.fieldLink "WasteHouseModel$HazardRulesModel" (159 : Nat) "WasteHouseModel$HazardRulesModel" "words" "I") ∈ lw_all := lw_g (lw_at lw_m28 20 rfl) rfl
theorem q6893 : (Jvm.Cond.fieldLink "WasteHouseModel$HazardRulesModel" (23 : Nat) "WasteHouseModel$HazardRulesModel" "newStarts" "[I") ∈ lw_all := lw_g (lw_at lw_m28 21 rfl) rfl
theorem q6894 : (Jvm.Cond.fieldLink "WasteHouseModel$HazardRulesModel" (26 : Nat) "WasteHouseModel$HazardRulesModel" "newEnds" "[I") ∈ lw_all := lw_g (lw_at lw_m28 22 rfl) rfl
theorem q6895 : (Jvm.Cond.fieldLink "WasteHouseModel$HazardRulesModel" (74 : Nat) "WasteHouseModel$HazardRulesModel" "newWords" "I") ∈ lw_all := lw_g (lw_at lw_m28 23 rfl) rfl
theorem q6896 : (Jvm.Cond.fieldLink "WasteHouseModel$HazardRulesModel" (29 : Nat) "WasteHouseModel$HazardRulesModel" "ruleAt" "[I") ∈ lw_all := lw_g (lw_at lw_m28 24 rfl) rfl
theorem q6897 : (Jvm.Cond.fieldLink "WasteHouseModel$HazardRulesModel" (32 : Nat) "WasteHouseModel$HazardRulesModel" "ruleEdition" "[I") ∈ lw_all := lw_g (lw_at lw_m28 25 rfl) rfl
theorem q6898 : (Jvm.Cond.fieldLink "WasteHouseModel$HazardRulesModel" (162 : Nat) "WasteHouseModel$HazardRulesModel" "rules" "I") ∈ lw_all := lw_g (lw_at lw_m28 26 rfl) rfl
theorem q6899 : (Jvm.Cond.fieldLink "WasteHouseModel$HazardRulesModel" (35 : Nat) "WasteHouseModel$HazardRulesModel" "days" "[I") ∈ lw_all := lw_g (lw_at lw_m28 27 rfl) rfl
theorem q6900 : (Jvm.Cond.fieldLink "WasteHouseModel$HazardRulesModel" (165 : Nat) "WasteHouseModel$HazardRulesModel" "editions" "I") ∈ lw_all := lw_g (lw_at lw_m28 28 rfl) rfl
theorem q6901 : (Jvm.Cond.fieldLink "WasteHouseModel$HazardRulesModel" (38 : Nat) "WasteHouseModel$HazardRulesModel" "lows" "[I") ∈ lw_all := lw_g (lw_at lw_m28 29 rfl) rfl
theorem q6902 : (Jvm.Cond.fieldLink "WasteHouseModel$HazardRulesModel" (41 : Nat) "WasteHouseModel$HazardRulesModel" "highs" "[I") ∈ lw_all := lw_g (lw_at lw_m28 30 rfl) rfl
theorem q6903 : (Jvm.Cond.fieldLink "WasteHouseModel$HazardRulesModel" (44 : Nat) "WasteHouseModel$HazardRulesModel" "known" "[Z") ∈ lw_all := lw_g (lw_at lw_m28 31 rfl) rfl
theorem q6904 : (Jvm.Cond.fieldLink "WasteHouseModel$HazardRulesModel" (48 : Nat) "WasteHouseModel$HazardRulesModel" "results" "[I") ∈ lw_all := lw_g (lw_at lw_m28 32 rfl) rfl
theorem q6905 : (Jvm.Cond.fieldLink "WasteHouseModel$HazardRulesModel" (51 : Nat) "WasteHouseModel$HazardRulesModel" "isStrict" "Z") ∈ lw_all := lw_g (lw_at lw_m28 33 rfl) rfl
theorem q6906 : (Jvm.Cond.fieldLink "WasteHouseModel$HazardRulesModel" (55 : Nat) "WasteHouseModel$HazardRulesModel" "acted" "I") ∈ lw_all := lw_g (lw_at lw_m28 34 rfl) rfl
theorem q6907 : (Jvm.Cond.fieldLink "WasteHouseModel$HazardRulesModel" (59 : Nat) "WasteHouseModel$HazardRulesModel" "states" "[I") ∈ lw_all := lw_g (lw_at lw_m28 35 rfl) rfl
theorem q6908 : (Jvm.Cond.fieldLink "WasteHouseModel$HazardRulesModel" (62 : Nat) "WasteHouseModel$HazardRulesModel" "lacks" "[I") ∈ lw_all := lw_g (lw_at lw_m28 36 rfl) rfl
theorem q6909 : (Jvm.Cond.fieldLink "WasteHouseModel$HazardRulesModel" (65 : Nat) "WasteHouseModel$HazardRulesModel" "order" "[I") ∈ lw_all := lw_g (lw_at lw_m28 37 rfl) rfl
theorem q6910 : (Jvm.Cond.fieldLink "WasteHouseModel$HazardRulesModel" (179 : Nat) "WasteHouseModel$HazardRulesModel" "held" "I") ∈ lw_all := lw_g (lw_at lw_m28 38 rfl) rfl
theorem q6911 : (Jvm.Cond.fieldLink "WasteHouseModel$HazardRulesModel" (68 : Nat) "WasteHouseModel$HazardRulesModel" "fault" "I") ∈ lw_all := lw_g (lw_at lw_m28 39 rfl) rfl
theorem q6912 : (Jvm.Cond.fieldLink "WasteHouseModel$HazardRulesModel" (83 : Nat) "WasteHouseModel$HazardRulesModel" "at" "I") ∈ lw_all := lw_g (lw_at lw_m28 40 rfl) rfl
theorem q6913 : (Jvm.Cond.fieldLink "WasteHouseModel$HazardRulesModel" (184 : Nat) "WasteHouseModel$HazardRulesModel" "total" "J") ∈ lw_all := lw_g (lw_at lw_m28 41 rfl) rfl
theorem q6914 : (Jvm.Cond.fieldLink "WasteHouseModel$HazardRulesModel" (188 : Nat) "WasteHouseModel$HazardRulesModel" "lack" "I") ∈ lw_all := lw_g (lw_at lw_m28 42 rfl) rfl
theorem q6915 : (Jvm.Cond.fieldLink "WasteHouseModel$HazardRulesModel" (191 : Nat) "WasteHouseModel$HazardRulesModel" "compares" "I") ∈ lw_all := lw_g (lw_at lw_m28 43 rfl) rfl
theorem q6916 : (Jvm.Cond.laysFinal "WasteHouseModel$HazardRulesModel" "WasteHouseModel$HazardRulesModel" "coming" "[B") ∈ lw_all := lw_g (lw_at lw_m28 44 rfl) rfl
theorem q6917 : (Jvm.Cond.soleField "WasteHouseModel$HazardRulesModel" "coming") ∈ lw_all := lw_g (lw_at lw_m28 45 rfl) rfl
theorem q6918 : (Jvm.Cond.lays "WasteHouseModel$HazardRulesModel" "WasteHouseModel$HazardRulesModel" "size" "I") ∈ lw_all := lw_g (lw_at lw_m28 46 rfl) rfl
theorem q6919 : (Jvm.Cond.soleField "WasteHouseModel$HazardRulesModel" "size") ∈ lw_all := lw_g (lw_at lw_m28 47 rfl) rfl
theorem q6920 : (Jvm.Cond.laysFinal "WasteHouseModel$HazardRulesModel" "WasteHouseModel$HazardRulesModel" "kept" "[B") ∈ lw_all := lw_g (lw_at lw_m28 48 rfl) rfl
theorem q6921 : (Jvm.Cond.soleField "WasteHouseModel$HazardRulesModel" "kept") ∈ lw_all := lw_g (lw_at lw_m28 49 rfl) rfl
theorem q6922 : (Jvm.Cond.laysFinal "WasteHouseModel$HazardRulesModel" "WasteHouseModel$HazardRulesModel" "starts" "[I") ∈ lw_all := lw_g (lw_at lw_m28 50 rfl) rfl
theorem q6923 : (Jvm.Cond.soleField "WasteHouseModel$HazardRulesModel" "starts") ∈ lw_all := lw_g (lw_at lw_m28 51 rfl) rfl
theorem q6924 : (Jvm.Cond.laysFinal "WasteHouseModel$HazardRulesModel" "WasteHouseModel$HazardRulesModel" "ends" "[I") ∈ lw_all := lw_g (lw_at lw_m28 52 rfl) rfl
theorem q6925 : (Jvm.Cond.soleField "WasteHouseModel$HazardRulesModel" "ends") ∈ lw_all := lw_g (lw_at lw_m28 53 rfl) rfl
theorem q6926 : (Jvm.Cond.lays "WasteHouseModel$HazardRulesModel" "WasteHouseModel$HazardRulesModel" "words" "I") ∈ lw_all := lw_g (lw_at lw_m28 54 rfl) rfl
theorem q6927 : (Jvm.Cond.soleField "WasteHouseModel$HazardRulesModel" "words") ∈ lw_all := lw_g (lw_at lw_m28 55 rfl) rfl
theorem q6928 : (Jvm.Cond.laysFinal "WasteHouseModel$HazardRulesModel" "WasteHouseModel$HazardRulesModel" "newStarts" "[I") ∈ lw_all := lw_g (lw_at lw_m28 56 rfl) rfl
theorem q6929 : (Jvm.Cond.soleField "WasteHouseModel$HazardRulesModel" "newStarts") ∈ lw_all := lw_g (lw_at lw_m28 57 rfl) rfl
theorem q6930 : (Jvm.Cond.laysFinal "WasteHouseModel$HazardRulesModel" "WasteHouseModel$HazardRulesModel" "newEnds" "[I") ∈ lw_all := lw_g (lw_at lw_m28 58 rfl) rfl
theorem q6931 : (Jvm.Cond.soleField "WasteHouseModel$HazardRulesModel" "newEnds") ∈ lw_all := lw_g (lw_at lw_m28 59 rfl) rfl
theorem q6932 : (Jvm.Cond.lays "WasteHouseModel$HazardRulesModel" "WasteHouseModel$HazardRulesModel" "newWords" "I") ∈ lw_all := lw_g (lw_at lw_m28 60 rfl) rfl
theorem q6933 : (Jvm.Cond.soleField "WasteHouseModel$HazardRulesModel" "newWords") ∈ lw_all := lw_g (lw_at lw_m28 61 rfl) rfl
theorem q6934 : (Jvm.Cond.laysFinal "WasteHouseModel$HazardRulesModel" "WasteHouseModel$HazardRulesModel" "ruleAt" "[I") ∈ lw_all := lw_g (lw_at lw_m28 62 rfl) rfl
theorem q6935 : (Jvm.Cond.soleField "WasteHouseModel$HazardRulesModel" "ruleAt") ∈ lw_all := lw_g (lw_at lw_m28 63 rfl) rfl
theorem q6936 : (Jvm.Cond.laysFinal "WasteHouseModel$HazardRulesModel" "WasteHouseModel$HazardRulesModel" "ruleEdition" "[I") ∈ lw_all := lw_g (lw_at lw_m28 64 rfl) rfl
theorem q6937 : (Jvm.Cond.soleField "WasteHouseModel$HazardRulesModel" "ruleEdition") ∈ lw_all := lw_g (lw_at lw_m28 65 rfl) rfl
theorem q6938 : (Jvm.Cond.lays "WasteHouseModel$HazardRulesModel" "WasteHouseModel$HazardRulesModel" "rules" "I") ∈ lw_all := lw_g (lw_at lw_m28 66 rfl) rfl
theorem q6939 : (Jvm.Cond.soleField "WasteHouseModel$HazardRulesModel" "rules") ∈ lw_all := lw_g (lw_at lw_m28 67 rfl) rfl
theorem q6940 : (Jvm.Cond.laysFinal "WasteHouseModel$HazardRulesModel" "WasteHouseModel$HazardRulesModel" "days" "[I") ∈ lw_all := lw_g (lw_at lw_m28 68 rfl) rfl
theorem q6941 : (Jvm.Cond.soleField "WasteHouseModel$HazardRulesModel" "days") ∈ lw_all := lw_g (lw_at lw_m28 69 rfl) rfl
theorem q6942 : (Jvm.Cond.lays "WasteHouseModel$HazardRulesModel" "WasteHouseModel$HazardRulesModel" "editions" "I") ∈ lw_all := lw_g (lw_at lw_m28 70 rfl) rfl
theorem q6943 : (Jvm.Cond.soleField "WasteHouseModel$HazardRulesModel" "editions") ∈ lw_all := lw_g (lw_at lw_m28 71 rfl) rfl
theorem q6944 : (Jvm.Cond.laysFinal "WasteHouseModel$HazardRulesModel" "WasteHouseModel$HazardRulesModel" "lows" "[I") ∈ lw_all := lw_g (lw_at lw_m28 72 rfl) rfl
theorem q6945 : (Jvm.Cond.soleField "WasteHouseModel$HazardRulesModel" "lows") ∈ lw_all := lw_g (lw_at lw_m28 73 rfl) rfl
theorem q6946 : (Jvm.Cond.laysFinal "WasteHouseModel$HazardRulesModel" "WasteHouseModel$HazardRulesModel" "highs" "[I") ∈ lw_all := lw_g (lw_at lw_m28 74 rfl) rfl
theorem q6947 : (Jvm.Cond.soleField "WasteHouseModel$HazardRulesModel" "highs") ∈ lw_all := lw_g (lw_at lw_m28 75 rfl) rfl
theorem q6948 : (Jvm.Cond.laysFinal "WasteHouseModel$HazardRulesModel" "WasteHouseModel$HazardRulesModel" "known" "[Z") ∈ lw_all := lw_g (lw_at lw_m28 76 rfl) rfl
theorem q6949 : (Jvm.Cond.soleField "WasteHouseModel$HazardRulesModel" "known") ∈ lw_all := lw_g (lw_at lw_m28 77 rfl) rfl
theorem q6950 : (Jvm.Cond.laysFinal "WasteHouseModel$HazardRulesModel" "WasteHouseModel$HazardRulesModel" "results" "[I") ∈ lw_all := lw_g (lw_at lw_m28 78 rfl) rfl
theorem q6951 : (Jvm.Cond.soleField "WasteHouseModel$HazardRulesModel" "results") ∈ lw_all := lw_g (lw_at lw_m28 79 rfl) rfl
theorem q6952 : (Jvm.Cond.lays "WasteHouseModel$HazardRulesModel" "WasteHouseModel$HazardRulesModel" "isStrict" "Z") ∈ lw_all := lw_g (lw_at lw_m28 80 rfl) rfl
theorem q6953 : (Jvm.Cond.soleField "WasteHouseModel$HazardRulesModel" "isStrict") ∈ lw_all := lw_g (lw_at lw_m28 81 rfl) rfl
theorem q6954 : (Jvm.Cond.lays "WasteHouseModel$HazardRulesModel" "WasteHouseModel$HazardRulesModel" "acted" "I") ∈ lw_all := lw_g (lw_at lw_m28 82 rfl) rfl
theorem q6955 : (Jvm.Cond.soleField "WasteHouseModel$HazardRulesModel" "acted") ∈ lw_all := lw_g (lw_at lw_m28 83 rfl) rfl
theorem q6956 : (Jvm.Cond.laysFinal "WasteHouseModel$HazardRulesModel" "WasteHouseModel$HazardRulesModel" "states" "[I") ∈ lw_all := lw_g (lw_at lw_m28 84 rfl) rfl
theorem q6957 : (Jvm.Cond.soleField "WasteHouseModel$HazardRulesModel" "states") ∈ lw_all := lw_g (lw_at lw_m28 85 rfl) rfl
theorem q6958 : (Jvm.Cond.laysFinal "WasteHouseModel$HazardRulesModel" "WasteHouseModel$HazardRulesModel" "lacks" "[I") ∈ lw_all := lw_g (lw_at lw_m28 86 rfl) rfl
theorem q6959 : (Jvm.Cond.soleField "WasteHouseModel$HazardRulesModel" "lacks") ∈ lw_all := lw_g (lw_at lw_m28 87 rfl) rfl
theorem q6960 : (Jvm.Cond.laysFinal "WasteHouseModel$HazardRulesModel" "WasteHouseModel$HazardRulesModel" "order" "[I") ∈ lw_all := lw_g (lw_at lw_m28 88 rfl) rfl
theorem q6961 : (Jvm.Cond.soleField "WasteHouseModel$HazardRulesModel" "order") ∈ lw_all := lw_g (lw_at lw_m28 89 rfl) rfl
theorem q6962 : (Jvm.Cond.lays "WasteHouseModel$HazardRulesModel" "WasteHouseModel$HazardRulesModel" "held" "I") ∈ lw_all := lw_g (lw_at lw_m28 90 rfl) rfl
theorem q6963 : (Jvm.Cond.soleField "WasteHouseModel$HazardRulesModel" "held") ∈ lw_all := lw_g (lw_at lw_m28 91 rfl) rfl
theorem q6964 : (Jvm.Cond.lays "WasteHouseModel$HazardRulesModel" "WasteHouseModel$HazardRulesModel" "fault" "I") ∈ lw_all := lw_g (lw_at lw_m28 92 rfl) rfl
theorem q6965 : (Jvm.Cond.soleField "WasteHouseModel$HazardRulesModel" "fault") ∈ lw_all := lw_g (lw_at lw_m28 93 rfl) rfl
theorem q6966 : (Jvm.Cond.lays "WasteHouseModel$HazardRulesModel" "WasteHouseModel$HazardRulesModel" "at" "I") ∈ lw_all := lw_g (lw_at lw_m28 94 rfl) rfl
theorem q6967 : (Jvm.Cond.soleField "WasteHouseModel$HazardRulesModel" "at") ∈ lw_all := lw_g (lw_at lw_m28 95 rfl) rfl
theorem q6968 : (Jvm.Cond.lays "WasteHouseModel$HazardRulesModel" "WasteHouseModel$HazardRulesModel" "total" "J") ∈ lw_all := lw_g (lw_at lw_m28 96 rfl) rfl
theorem q6969 : (Jvm.Cond.soleField "WasteHouseModel$HazardRulesModel" "total") ∈ lw_all := lw_g (lw_at lw_m28 97 rfl) rfl
theorem q6970 : (Jvm.Cond.lays "WasteHouseModel$HazardRulesModel" "WasteHouseModel$HazardRulesModel" "lack" "I") ∈ lw_all := lw_g (lw_at lw_m28 98 rfl) rfl
theorem q6971 : (Jvm.Cond.soleField "WasteHouseModel$HazardRulesModel" "lack") ∈ lw_all := lw_g (lw_at lw_m28 99 rfl) rfl
theorem q6972 : (Jvm.Cond.lays "WasteHouseModel$HazardRulesModel" "WasteHouseModel$HazardRulesModel" "compares" "I") ∈ lw_all := lw_g (lw_at lw_m28 100 rfl) rfl
theorem q6973 : (Jvm.Cond.soleField "WasteHouseModel$HazardRulesModel" "compares") ∈ lw_all := lw_g (lw_at lw_m28 101 rfl) rfl
theorem q6974 : (Jvm.Cond.superclass "WasteHouseModel$HazardRulesModel" "java/lang/Object") ∈ lw_all := lw_g (lw_at lw_m28 102 rfl) rfl
theorem q7964 : (Jvm.Cond.instanceMethod ({ cls := "WasteHouseModel$HazardRulesModel", name := "part", desc := "(IJJ)Z" } : Jvm.MethodName)) ∈ lw_all := lw_g (lw_at lw_m32 132 rfl) rfl
theorem q7965 : (Jvm.Cond.selects "WasteHouseModel$HazardRulesModel" ({ cls := "WasteHouseModel$HazardRulesModel", name := "part", desc := "(IJJ)Z" } : Jvm.MethodName) ({ cls := "WasteHouseModel$HazardRulesModel", name := "part", desc := "(IJJ)Z" } : Jvm.MethodName)) ∈ lw_all := lw_g (lw_at lw_m32 133 rfl) rfl
theorem q7966 : (Jvm.Cond.code ({ cls := "WasteHouseModel$HazardRulesModel", name := "part", desc := "(IJJ)Z" } : Jvm.MethodName) prog_60_method_21_code (6 : Nat) (Option.some Jvm.ClassFile.FieldType.boolean)) ∈ lw_all := lw_g (lw_at lw_m32 134 rfl) rfl
theorem q7967 : (Jvm.Cond.constantLong "WasteHouseModel$HazardRulesModel" (182 : Nat) (1000000 : Int64)) ∈ lw_all := lw_g (lw_at lw_m32 135 rfl) rfl
theorem q7969 : (Jvm.Cond.instanceMethod ({ cls := "WasteHouseModel$HazardRulesModel", name := "run", desc := "(J)I" } : Jvm.MethodName)) ∈ lw_all := lw_g (lw_at lw_m32 137 rfl) rfl
theorem q7970 : (Jvm.Cond.selects "WasteHouseModel$HazardRulesModel" ({ cls := "WasteHouseModel$HazardRulesModel", name := "run", desc := "(J)I" } : Jvm.MethodName) ({ cls := "WasteHouseModel$HazardRulesModel", name := "run", desc := "(J)I" } : Jvm.MethodName)) ∈ lw_all := lw_g (lw_at lw_m32 138 rfl) rfl
theorem q7971 : (Jvm.Cond.code ({ cls := "WasteHouseModel$HazardRulesModel", name := "run", desc := "(J)I" } : Jvm.MethodName) prog_60_method_37_code (4 : Nat) (Option.some Jvm.ClassFile.FieldType.int)) ∈ lw_all := lw_g (lw_at lw_m32 139 rfl) rfl
theorem q7972 : (Jvm.Cond.methodLink "WasteHouseModel$HazardRulesModel" (176 : Nat) ({ cls := "WasteHouseModel$HazardRulesModel", name := "forget", desc := "()V" } : Jvm.MethodName)) ∈ lw_all := lw_g (lw_at lw_m32 140 rfl) rfl
theorem q7973 : (Jvm.Cond.privateMethod ({ cls := "WasteHouseModel$HazardRulesModel", name := "forget", desc := "()V" } : Jvm.MethodName)) ∈ lw_tbl := lw_at lw_m32 141 rfl
theorem q7974 : (Jvm.Cond.instanceMethod ({ cls := "WasteHouseModel$HazardRulesModel", name := "forget", desc := "()V" } : Jvm.MethodName)) ∈ lw_all := lw_g (lw_at lw_m32 142 rfl) rfl
theorem q7975 : (Jvm.Cond.code ({ cls := "WasteHouseModel$HazardRulesModel", name := "forget", desc := "()V" } : Jvm.MethodName) prog_60_method_17_code (2 : Nat) (Option.none : Option Jvm.ClassFile.FieldType)) ∈ lw_all := lw_g (lw_at lw_m32 143 rfl) rfl
theorem q7976 : (Jvm.Cond.methodLink "WasteHouseModel$HazardRulesModel" (227 : Nat) ({ cls := "WasteHouseModel$HazardRulesModel", name := "edition", desc := "(J)I" } : Jvm.MethodName)) ∈ lw_all := lw_g (lw_at lw_m32 144 rfl) rfl
theorem q7977 : (Jvm.Cond.instanceMethod ({ cls := "WasteHouseModel$HazardRulesModel", name := "edition", desc := "(J)I" } : Jvm.MethodName)) ∈ lw_all := lw_g (lw_at lw_m32 145 rfl) rfl
theorem q7978 : (Jvm.Cond.selects "WasteHouseModel$HazardRulesModel" ({ cls := "WasteHouseModel$HazardRulesModel", name := "edition", desc := "(J)I" } : Jvm.MethodName) ({ cls := "WasteHouseModel$HazardRulesModel", name := "edition", desc := "(J)I" } : Jvm.MethodName)) ∈ lw_all := lw_g (lw_at lw_m32 146 rfl) rfl
theorem q7979 : (Jvm.Cond.code ({ cls := "WasteHouseModel$HazardRulesModel", name := "edition", desc := "(J)I" } : Jvm.MethodName) prog_60_method_36_code (5 : Nat) (Option.some Jvm.ClassFile.FieldType.int)) ∈ lw_all := lw_g (lw_at lw_m32 147 rfl) rfl
theorem q7980 : (Jvm.Cond.methodLink "WasteHouseModel$HazardRulesModel" (231 : Nat) ({ cls := "WasteHouseModel$HazardRulesModel", name := "judge", desc := "(I)V" } : Jvm.MethodName)) ∈ lw_all := lw_g (lw_at lw_m32 148 rfl) rfl
theorem q7981 : (Jvm.Cond.privateMethod ({ cls := "WasteHouseModel$HazardRulesModel", name := "judge", desc := "(I)V" } : Jvm.MethodName)) ∈ lw_tbl := lw_at lw_m32 149 rfl
theorem q7982 : (Jvm.Cond.instanceMethod ({ cls := "WasteHouseModel$HazardRulesModel", name := "judge", desc := "(I)V" } : Jvm.MethodName)) ∈ lw_all := lw_g (lw_at lw_m32 150 rfl) rfl
theorem q7983 : (Jvm.Cond.code ({ cls := "WasteHouseModel$HazardRulesModel", name := "judge", desc := "(I)V" } : Jvm.MethodName) prog_60_method_34_code (5 : Nat) (Option.none : Option Jvm.ClassFile.FieldType)) ∈ lw_all := lw_g (lw_at lw_m32 151 rfl) rfl
theorem q7984 : (Jvm.Cond.methodLink "WasteHouseModel$HazardRulesModel" (211 : Nat) ({ cls := "WasteHouseModel$HazardRulesModel", name := "isPassed", desc := "(I)Z" } : Jvm.MethodName)) ∈ lw_all := lw_g (lw_at lw_m32 152 rfl) rfl
theorem q7985 : (Jvm.Cond.privateMethod ({ cls := "WasteHouseModel$HazardRulesModel", name := "isPassed", desc := "(I)Z" } : Jvm.MethodName)) ∈ lw_tbl := lw_at lw_m32 153 rfl
theorem q7986 : (Jvm.Cond.instanceMethod ({ cls := "WasteHouseModel$HazardRulesModel", name := "isPassed", desc := "(I)Z" } : Jvm.MethodName)) ∈ lw_all := lw_g (lw_at lw_m32 154 rfl) rfl
theorem q7987 : (Jvm.Cond.code ({ cls := "WasteHouseModel$HazardRulesModel", name := "isPassed", desc := "(I)Z" } : Jvm.MethodName) prog_60_method_33_code (4 : Nat) (Option.some Jvm.ClassFile.FieldType.boolean)) ∈ lw_all := lw_g (lw_at lw_m32 155 rfl) rfl
theorem q7988 : (Jvm.Cond.methodLink "WasteHouseModel$HazardRulesModel" (207 : Nat) ({ cls := "WasteHouseModel$HazardRulesModel", name := "hasTests", desc := "(IZ)Z" } : Jvm.MethodName)) ∈ lw_all := lw_g (lw_at lw_m32 156 rfl) rfl
theorem q7989 : (Jvm.Cond.privateMethod ({ cls := "WasteHouseModel$HazardRulesModel", name := "hasTests", desc := "(IZ)Z" } : Jvm.MethodName)) ∈ lw_tbl := lw_at lw_m32 157 rfl
theorem q7990 : (Jvm.Cond.instanceMethod ({ cls := "WasteHouseModel$HazardRulesModel", name := "hasTests", desc := "(IZ)Z" } : Jvm.MethodName)) ∈ lw_all := lw_g (lw_at lw_m32 158 rfl) rfl
theorem q7991 : (Jvm.Cond.code ({ cls := "WasteHouseModel$HazardRulesModel", name := "hasTests", desc := "(IZ)Z" } : Jvm.MethodName) prog_60_method_32_code (6 : Nat) (Option.some Jvm.ClassFile.FieldType.boolean)) ∈ lw_all := lw_g (lw_at lw_m32 159 rfl) rfl
theorem q7992 : (Jvm.Cond.methodLink "WasteHouseModel$HazardRulesModel" (201 : Nat) ({ cls := "WasteHouseModel$HazardRulesModel", name := "firstItem", desc := "(I)I" } : Jvm.MethodName)) ∈ lw_all := lw_g (lw_at lw_m32 160 rfl) rfl
theorem q7993 : (Jvm.Cond.privateMethod ({ cls := "WasteHouseModel$HazardRulesModel", name := "firstItem", desc := "(I)I" } : Jvm.MethodName)) ∈ lw_tbl := lw_at lw_m32 161 rfl
theorem q7994 : (Jvm.Cond.instanceMethod ({ cls := "WasteHouseModel$HazardRulesModel", name := "firstItem", desc := "(I)I" } : Jvm.MethodName)) ∈ lw_all := lw_g (lw_at lw_m32 162 rfl) rfl
theorem q7995 : (Jvm.Cond.code ({ cls := "WasteHouseModel$HazardRulesModel", name := "firstItem", desc := "(I)I" } : Jvm.MethodName) prog_60_method_26_code (2 : Nat) (Option.some Jvm.ClassFile.FieldType.int)) ∈ lw_all := lw_g (lw_at lw_m32 163 rfl) rfl
theorem q7996 : (Jvm.Cond.constantLong "WasteHouseModel$HazardRulesModel" (124 : Nat) (6247773044 : Int64)) ∈ lw_all := lw_g (lw_at lw_m32 164 rfl) rfl
theorem q7997 : (Jvm.Cond.methodLink "WasteHouseModel$HazardRulesModel" (168 : Nat) ({ cls := "WasteHouseModel$HazardRulesModel", name := "has", desc := "(IJ)Z" } : Jvm.MethodName)) ∈ lw_all := lw_g (lw_at lw_m32 165 rfl) rfl
theorem q7998 : (Jvm.Cond.privateMethod ({ cls := "WasteHouseModel$HazardRulesModel", name := "has", desc := "(IJ)Z" } : Jvm.MethodName)) ∈ lw_tbl := lw_at lw_m32 166 rfl
theorem q7999 : (Jvm.Cond.instanceMethod ({ cls := "WasteHouseModel$HazardRulesModel", name := "has", desc := "(IJ)Z" } : Jvm.MethodName)) ∈ lw_all := lw_g (lw_at lw_m32 167 rfl) rfl
theorem q8000 : (Jvm.Cond.code ({ cls := "WasteHouseModel$HazardRulesModel", name := "has", desc := "(IJ)Z" } : Jvm.MethodName) prog_60_method_18_code (4 : Nat) (Option.some Jvm.ClassFile.FieldType.boolean)) ∈ lw_all := lw_g (lw_at lw_m32 168 rfl) rfl
theorem q8001 : (Jvm.Cond.methodLink "WasteHouseModel$HazardRulesModel" (86 : Nat) ({ cls := "WasteHouseModel$HazardRulesModel", name := "wordOf", desc := "([B[I[II)J" } : Jvm.MethodName)) ∈ lw_all := lw_g (lw_at lw_m32 169 rfl) rfl
theorem q8002 : (Jvm.Cond.static ({ cls := "WasteHouseModel$HazardRulesModel", name := "wordOf", desc := "([B[I[II)J" } : Jvm.MethodName)) ∈ lw_all := lw_g (lw_at lw_m32 170 rfl) rfl
theorem q8003 : (Jvm.Cond.code ({ cls := "WasteHouseModel$HazardRulesModel", name := "wordOf", desc := "([B[I[II)J" } : Jvm.MethodName) prog_60_method_6_code (7 : Nat) (Option.some Jvm.ClassFile.FieldType.long)) ∈ lw_all := lw_g (lw_at lw_m32 171 rfl) rfl
theorem q8004 : (Jvm.Cond.constantLong "WasteHouseModel$HazardRulesModel" (81 : Nat) (256 : Int64)) ∈ lw_all := lw_g (lw_at lw_m32 172 rfl) rfl
theorem q8005 : (Jvm.Cond.methodLink "WasteHouseModel$HazardRulesModel" (172 : Nat) ({ cls := "WasteHouseModel$HazardRulesModel", name := "number", desc := "(I)I" } : Jvm.MethodName)) ∈ lw_all := lw_g (lw_at lw_m32 173 rfl) rfl
theorem q8006 : (Jvm.Cond.privateMethod ({ cls := "WasteHouseModel$HazardRulesModel", name := "number", desc := "(I)I" } : Jvm.MethodName)) ∈ lw_tbl := lw_at lw_m32 174 rfl
theorem q8007 : (Jvm.Cond.instanceMethod ({ cls := "WasteHouseModel$HazardRulesModel", name := "number", desc := "(I)I" } : Jvm.MethodName)) ∈ lw_all := lw_g (lw_at lw_m32 175 rfl) rfl
theorem q8008 : (Jvm.Cond.code ({ cls := "WasteHouseModel$HazardRulesModel", name := "number", desc := "(I)I" } : Jvm.MethodName) prog_60_method_19_code (2 : Nat) (Option.some Jvm.ClassFile.FieldType.int)) ∈ lw_all := lw_g (lw_at lw_m32 176 rfl) rfl
theorem q8009 : (Jvm.Cond.methodLink "WasteHouseModel$HazardRulesModel" (94 : Nat) ({ cls := "WasteHouseModel$HazardRulesModel", name := "numberOf", desc := "([B[I[II)I" } : Jvm.MethodName)) ∈ lw_all := lw_g (lw_at lw_m32 177 rfl) rfl
theorem q8010 : (Jvm.Cond.static ({ cls := "WasteHouseModel$HazardRulesModel", name := "numberOf", desc := "([B[I[II)I" } : Jvm.MethodName)) ∈ lw_all := lw_g (lw_at lw_m32 178 rfl) rfl
theorem q8011 : (Jvm.Cond.code ({ cls := "WasteHouseModel$HazardRulesModel", name := "numberOf", desc := "([B[I[II)I" } : Jvm.MethodName) prog_60_method_7_code (8 : Nat) (Option.some Jvm.ClassFile.FieldType.int)) ∈ lw_all := lw_g (lw_at lw_m32 179 rfl) rfl
theorem q8012 : (Jvm.Cond.methodLink "WasteHouseModel$HazardRulesModel" (204 : Nat) ({ cls := "WasteHouseModel$HazardRulesModel", name := "nextItem", desc := "(I)I" } : Jvm.MethodName)) ∈ lw_all := lw_g (lw_at lw_m32 180 rfl) rfl
theorem q8013 : (Jvm.Cond.privateMethod ({ cls := "WasteHouseModel$HazardRulesModel", name := "nextItem", desc := "(I)I" } : Jvm.MethodName)) ∈ lw_tbl := lw_at lw_m32 181 rfl
theorem q8014 : (Jvm.Cond.instanceMethod ({ cls := "WasteHouseModel$HazardRulesModel", name := "nextItem", desc := "(I)I" } : Jvm.MethodName)) ∈ lw_all := lw_g (lw_at lw_m32 182 rfl) rfl
theorem q8015 : (Jvm.Cond.code ({ cls := "WasteHouseModel$HazardRulesModel", name := "nextItem", desc := "(I)I" } : Jvm.MethodName) prog_60_method_25_code (3 : Nat) (Option.some Jvm.ClassFile.FieldType.int)) ∈ lw_all := lw_g (lw_at lw_m32 183 rfl) rfl
theorem q8016 : (Jvm.Cond.constantLong "WasteHouseModel$HazardRulesModel" (144 : Nat) (23162468 : Int64)) ∈ lw_all := lw_g (lw_at lw_m32 184 rfl) rfl
theorem q8017 : (Jvm.Cond.constantLong "WasteHouseModel$HazardRulesModel" (146 : Nat) (23424612 : Int64)) ∈ lw_all := lw_g (lw_at lw_m32 185 rfl) rfl
theorem q8018 : (Jvm.Cond.methodLink "WasteHouseModel$HazardRulesModel" (198 : Nat) ({ cls := "WasteHouseModel$HazardRulesModel", name := "classOf", desc := "(I)I" } : Jvm.MethodName)) ∈ lw_all := lw_g (lw_at lw_m32 186 rfl) rfl
theorem q8019 : (Jvm.Cond.privateMethod ({ cls := "WasteHouseModel$HazardRulesModel", name := "classOf", desc := "(I)I" } : Jvm.MethodName)) ∈ lw_tbl := lw_at lw_m32 187 rfl
theorem q8020 : (Jvm.Cond.instanceMethod ({ cls := "WasteHouseModel$HazardRulesModel", name := "classOf", desc := "(I)I" } : Jvm.MethodName)) ∈ lw_all := lw_g (lw_at lw_m32 188 rfl) rfl
theorem q8021 : (Jvm.Cond.code ({ cls := "WasteHouseModel$HazardRulesModel", name := "classOf", desc := "(I)I" } : Jvm.MethodName) prog_60_method_31_code (2 : Nat) (Option.some Jvm.ClassFile.FieldType.int)) ∈ lw_all := lw_g (lw_at lw_m32 189 rfl) rfl
theorem q8022 : (Jvm.Cond.methodLink "WasteHouseModel$HazardRulesModel" (214 : Nat) ({ cls := "WasteHouseModel$HazardRulesModel", name := "stateOfTest", desc := "(I)I" } : Jvm.MethodName)) ∈ lw_all := lw_g (lw_at lw_m32 190 rfl) rfl
theorem q8023 : (Jvm.Cond.privateMethod ({ cls := "WasteHouseModel$HazardRulesModel", name := "stateOfTest", desc := "(I)I" } : Jvm.MethodName)) ∈ lw_tbl := lw_at lw_m32 191 rfl
theorem q8024 : (Jvm.Cond.instanceMethod ({ cls := "WasteHouseModel$HazardRulesModel", name := "stateOfTest", desc := "(I)I" } : Jvm.MethodName)) ∈ lw_all := lw_g (lw_at lw_m32 192 rfl) rfl
theorem q8025 : (Jvm.Cond.code ({ cls := "WasteHouseModel$HazardRulesModel", name := "stateOfTest", desc := "(I)I" } : Jvm.MethodName) prog_60_method_29_code (3 : Nat) (Option.some Jvm.ClassFile.FieldType.int)) ∈ lw_all := lw_g (lw_at lw_m32 193 rfl) rfl
theorem q8026 : (Jvm.Cond.constantLong "WasteHouseModel$HazardRulesModel" (126 : Nat) (92531 : Int64)) ∈ lw_all := lw_g (lw_at lw_m32 194 rfl) rfl
theorem q8027 : (Jvm.Cond.constantLong "WasteHouseModel$HazardRulesModel" (130 : Nat) (1548057601139 : Int64)) ∈ lw_all := lw_g (lw_at lw_m32 195 rfl) rfl
theorem q8028 : (Jvm.Cond.methodLink "WasteHouseModel$HazardRulesModel" (217 : Nat) ({ cls := "WasteHouseModel$HazardRulesModel", name := "stateOfHolds", desc := "(II)I" } : Jvm.MethodName)) ∈ lw_all := lw_g (lw_at lw_m32 196 rfl) rfl
theorem q8029 : (Jvm.Cond.privateMethod ({ cls := "WasteHouseModel$HazardRulesModel", name := "stateOfHolds", desc := "(II)I" } : Jvm.MethodName)) ∈ lw_tbl := lw_at lw_m32 197 rfl
theorem q8030 : (Jvm.Cond.instanceMethod ({ cls := "WasteHouseModel$HazardRulesModel", name := "stateOfHolds", desc := "(II)I" } : Jvm.MethodName)) ∈ lw_all := lw_g (lw_at lw_m32 198 rfl) rfl
theorem q8031 : (Jvm.Cond.code ({ cls := "WasteHouseModel$HazardRulesModel", name := "stateOfHolds", desc := "(II)I" } : Jvm.MethodName) prog_60_method_30_code (6 : Nat) (Option.some Jvm.ClassFile.FieldType.int)) ∈ lw_all := lw_g (lw_at lw_m32 199 rfl) rfl
theorem q8032 : (Jvm.Cond.methodLink "WasteHouseModel$HazardRulesModel" (221 : Nat) ({ cls := "WasteHouseModel$HazardRulesModel", name := "stateOfSum", desc := "(I)I" } : Jvm.MethodName)) ∈ lw_all := lw_g (lw_at lw_m32 200 rfl) rfl
theorem q8033 : (Jvm.Cond.privateMethod ({ cls := "WasteHouseModel$HazardRulesModel", name := "stateOfSum", desc := "(I)I" } : Jvm.MethodName)) ∈ lw_tbl := lw_at lw_m32 201 rfl
theorem q8034 : (Jvm.Cond.instanceMethod ({ cls := "WasteHouseModel$HazardRulesModel", name := "stateOfSum", desc := "(I)I" } : Jvm.MethodName)) ∈ lw_all := lw_g (lw_at lw_m32 202 rfl) rfl
theorem q8035 : (Jvm.Cond.code ({ cls := "WasteHouseModel$HazardRulesModel", name := "stateOfSum", desc := "(I)I" } : Jvm.MethodName) prog_60_method_28_code (4 : Nat) (Option.some Jvm.ClassFile.FieldType.int)) ∈ lw_all := lw_g (lw_at lw_m32 203 rfl) rfl
theorem q8036 : (Jvm.Cond.methodLink "WasteHouseModel$HazardRulesModel" (194 : Nat) ({ cls := "WasteHouseModel$HazardRulesModel", name := "add", desc := "(IZI)V" } : Jvm.MethodName)) ∈ lw_all := lw_g (lw_at lw_m32 204 rfl) rfl
theorem q8037 : (Jvm.Cond.privateMethod ({ cls := "WasteHouseModel$HazardRulesModel", name := "add", desc := "(IZI)V" } : Jvm.MethodName)) ∈ lw_tbl := lw_at lw_m32 205 rfl
theorem q8038 : (Jvm.Cond.instanceMethod ({ cls := "WasteHouseModel$HazardRulesModel", name := "add", desc := "(IZI)V" } : Jvm.MethodName)) ∈ lw_all := lw_g (lw_at lw_m32 206 rfl) rfl
theorem q8039 : (Jvm.Cond.code ({ cls := "WasteHouseModel$HazardRulesModel", name := "add", desc := "(IZI)V" } : Jvm.MethodName) prog_60_method_27_code (15 : Nat) (Option.none : Option Jvm.ClassFile.FieldType)) ∈ lw_all := lw_g (lw_at lw_m32 207 rfl) rfl
theorem q8040 : (Jvm.Cond.constantLong "WasteHouseModel$HazardRulesModel" (98 : Nat) (6181123443 : Int64)) ∈ lw_all := lw_g (lw_at lw_m32 208 rfl) rfl
theorem q8041 : (Jvm.Cond.constantLong "WasteHouseModel$HazardRulesModel" (103 : Nat) (1569431909747 : Int64)) ∈ lw_all := lw_g (lw_at lw_m32 209 rfl) rfl
theorem q8042 : (Jvm.Cond.constantLong "WasteHouseModel$HazardRulesModel" (111 : Nat) (23295348 : Int64)) ∈ lw_all := lw_g (lw_at lw_m32 210 rfl) rfl
theorem q8043 : (Jvm.Cond.constantLong "WasteHouseModel$HazardRulesModel" (114 : Nat) (90745 : Int64)) ∈ lw_all := lw_g (lw_at lw_m32 211 rfl) rfl
theorem q8044 : (Jvm.Cond.constantLong "WasteHouseModel$HazardRulesModel" (120 : Nat) (6164997490 : Int64)) ∈ lw_all := lw_g (lw_at lw_m32 212 rfl) rfl
theorem q8045 : (Jvm.Cond.methodLink "WasteHouseModel$HazardRulesModel" (224 : Nat) ({ cls := "WasteHouseModel$HazardRulesModel", name := "holds", desc := "(I)Z" } : Jvm.MethodName)) ∈ lw_all := lw_g (lw_at lw_m32 213 rfl) rfl
theorem q8046 : (Jvm.Cond.privateMethod ({ cls := "WasteHouseModel$HazardRulesModel", name := "holds", desc := "(I)Z" } : Jvm.MethodName)) ∈ lw_tbl := lw_at lw_m32 214 rfl
theorem q8047 : (Jvm.Cond.instanceMethod ({ cls := "WasteHouseModel$HazardRulesModel", name := "holds", desc := "(I)Z" } : Jvm.MethodName)) ∈ lw_all := lw_g (lw_at lw_m32 215 rfl) rfl
theorem q8048 : (Jvm.Cond.code ({ cls := "WasteHouseModel$HazardRulesModel", name := "holds", desc := "(I)Z" } : Jvm.MethodName) prog_60_method_35_code (4 : Nat) (Option.some Jvm.ClassFile.FieldType.boolean)) ∈ lw_all := lw_g (lw_at lw_m32 216 rfl) rfl
theorem q8049 : (Jvm.Cond.methodLink "WasteHouseModel$HazardRulesModel" (235 : Nat) ({ cls := "WasteHouseModel$HazardRulesModel", name := "open", desc := "(II)I" } : Jvm.MethodName)) ∈ lw_all := lw_g (lw_at lw_m32 217 rfl) rfl
theorem q8050 : (Jvm.Cond.instanceMethod ({ cls := "WasteHouseModel$HazardRulesModel", name := "open", desc := "(II)I" } : Jvm.MethodName)) ∈ lw_all := lw_g (lw_at lw_m32 218 rfl) rfl
theorem q8051 : (Jvm.Cond.selects "WasteHouseModel$HazardRulesModel" ({ cls := "WasteHouseModel$HazardRulesModel", name := "open", desc := "(II)I" } : Jvm.MethodName) ({ cls := "WasteHouseModel$HazardRulesModel", name := "open", desc := "(II)I" } : Jvm.MethodName)) ∈ lw_all := lw_g (lw_at lw_m32 219 rfl) rfl
theorem q8052 : (Jvm.Cond.code ({ cls := "WasteHouseModel$HazardRulesModel", name := "open", desc := "(II)I" } : Jvm.MethodName) prog_60_method_44_code (4 : Nat) (Option.some Jvm.ClassFile.FieldType.int)) ∈ lw_all := lw_g (lw_at lw_m32 220 rfl) rfl
theorem q8053 : (Jvm.Cond.methodLink "WasteHouseModel$HazardRulesModel" (247 : Nat) ({ cls := "WasteHouseModel$HazardRulesModel", name := "openRule", desc := "(I)I" } : Jvm.MethodName)) ∈ lw_all := lw_g (lw_at lw_m32 221 rfl) rfl
theorem q8054 : (Jvm.Cond.privateMethod ({ cls := "WasteHouseModel$HazardRulesModel", name := "openRule", desc := "(I)I" } : Jvm.MethodName)) ∈ lw_tbl := lw_at lw_m32 222 rfl
theorem q8055 : (Jvm.Cond.instanceMethod ({ cls := "WasteHouseModel$HazardRulesModel", name := "openRule", desc := "(I)I" } : Jvm.MethodName)) ∈ lw_all := lw_g (lw_at lw_m32 223 rfl) rfl
theorem q8056 : (Jvm.Cond.code ({ cls := "WasteHouseModel$HazardRulesModel", name := "openRule", desc := "(I)I" } : Jvm.MethodName) prog_60_method_43_code (4 : Nat) (Option.some Jvm.ClassFile.FieldType.int)) ∈ lw_all := lw_g (lw_at lw_m32 224 rfl) rfl
theorem q8057 : (Jvm.Cond.methodLink "WasteHouseModel$HazardRulesModel" (244 : Nat) ({ cls := "WasteHouseModel$HazardRulesModel", name := "isOpen", desc := "(I)Z" } : Jvm.MethodName)) ∈ lw_all := lw_g (lw_at lw_m32 225 rfl) rfl
theorem q8058 : (Jvm.Cond.privateMethod ({ cls := "WasteHouseModel$HazardRulesModel", name := "isOpen", desc := "(I)Z" } : Jvm.MethodName)) ∈ lw_tbl := lw_at lw_m32 226 rfl
theorem q8059 : (Jvm.Cond.instanceMethod ({ cls := "WasteHouseModel$HazardRulesModel", name := "isOpen", desc := "(I)Z" } : Jvm.MethodName)) ∈ lw_all := lw_g (lw_at lw_m32 227 rfl) rfl
theorem q8060 : (Jvm.Cond.code ({ cls := "WasteHouseModel$HazardRulesModel", name := "isOpen", desc := "(I)Z" } : Jvm.MethodName) prog_60_method_42_code (2 : Nat) (Option.some Jvm.ClassFile.FieldType.boolean)) ∈ lw_all := lw_g (lw_at lw_m32 228 rfl) rfl
theorem q8062 : (Jvm.Cond.instanceMethod ({ cls := "WasteHouseModel$HazardRulesModel", name := "moving", desc := "()I" } : Jvm.MethodName)) ∈ lw_all := lw_g (lw_at lw_m32 230 rfl) rfl
theorem q8063 : (Jvm.Cond.selects "WasteHouseModel$HazardRulesModel" ({ cls := "WasteHouseModel$HazardRulesModel", name := "moving", desc := "()I" } : Jvm.MethodName) ({ cls := "WasteHouseModel$HazardRulesModel", name := "moving", desc := "()I" } : Jvm.MethodName)) ∈ lw_all := lw_g (lw_at lw_m32 231 rfl) rfl
theorem q8064 : (Jvm.Cond.code ({ cls := "WasteHouseModel$HazardRulesModel", name := "moving", desc := "()I" } : Jvm.MethodName) prog_60_method_41_code (1 : Nat) (Option.some Jvm.ClassFile.FieldType.int)) ∈ lw_all := lw_g (lw_at lw_m32 232 rfl) rfl
theorem q8065 : (Jvm.Cond.methodLink "WasteHouseModel$HazardRulesModel" (241 : Nat) ({ cls := "WasteHouseModel$HazardRulesModel", name := "cls", desc := "(I)I" } : Jvm.MethodName)) ∈ lw_all := lw_g (lw_at lw_m32 233 rfl) rfl
theorem q8066 : (Jvm.Cond.instanceMethod ({ cls := "WasteHouseModel$HazardRulesModel", name := "cls", desc := "(I)I" } : Jvm.MethodName)) ∈ lw_all := lw_g (lw_at lw_m32 234 rfl) rfl
theorem q8067 : (Jvm.Cond.selects "WasteHouseModel$HazardRulesModel" ({ cls := "WasteHouseModel$HazardRulesModel", name := "cls", desc := "(I)I" } : Jvm.MethodName) ({ cls := "WasteHouseModel$HazardRulesModel", name := "cls", desc := "(I)I" } : Jvm.MethodName)) ∈ lw_all := lw_g (lw_at lw_m32 235 rfl) rfl
theorem q8068 : (Jvm.Cond.code ({ cls := "WasteHouseModel$HazardRulesModel", name := "cls", desc := "(I)I" } : Jvm.MethodName) prog_60_method_39_code (4 : Nat) (Option.some Jvm.ClassFile.FieldType.int)) ∈ lw_all := lw_g (lw_at lw_m32 236 rfl) rfl
theorem q8525 : (Jvm.Cond.instanceMethod ({ cls := "WasteHouseModel$HazardRulesModel", name := "unit", desc := "(I)Z" } : Jvm.MethodName)) ∈ lw_all := lw_g (lw_at lw_m34 213 rfl) rfl
theorem q8526 : (Jvm.Cond.selects "WasteHouseModel$HazardRulesModel" ({ cls := "WasteHouseModel$HazardRulesModel", name := "unit", desc := "(I)Z" } : Jvm.MethodName) ({ cls := "WasteHouseModel$HazardRulesModel", name := "unit", desc := "(I)Z" } : Jvm.MethodName)) ∈ lw_all := lw_g (lw_at lw_m34 214 rfl) rfl
theorem q8527 : (Jvm.Cond.code ({ cls := "WasteHouseModel$HazardRulesModel", name := "unit", desc := "(I)Z" } : Jvm.MethodName) prog_60_method_3_code (2 : Nat) (Option.some Jvm.ClassFile.FieldType.boolean)) ∈ lw_all := lw_g (lw_at lw_m34 215 rfl) rfl
theorem q8529 : (Jvm.Cond.instanceMethod ({ cls := "WasteHouseModel$HazardRulesModel", name := "read", desc := "()I" } : Jvm.MethodName)) ∈ lw_all := lw_g (lw_at lw_m34 217 rfl) rfl
theorem q8530 : (Jvm.Cond.selects "WasteHouseModel$HazardRulesModel" ({ cls := "WasteHouseModel$HazardRulesModel", name := "read", desc := "()I" } : Jvm.MethodName) ({ cls := "WasteHouseModel$HazardRulesModel", name := "read", desc := "()I" } : Jvm.MethodName)) ∈ lw_all := lw_g (lw_at lw_m34 218 rfl) rfl
theorem q8531 : (Jvm.Cond.code ({ cls := "WasteHouseModel$HazardRulesModel", name := "read", desc := "()I" } : Jvm.MethodName) prog_60_method_16_code (5 : Nat) (Option.some Jvm.ClassFile.FieldType.int)) ∈ lw_all := lw_g (lw_at lw_m34 219 rfl) rfl
theorem q8532 : (Jvm.Cond.methodLink "WasteHouseModel$HazardRulesModel" (153 : Nat) ({ cls := "WasteHouseModel$HazardRulesModel", name := "split", desc := "()V" } : Jvm.MethodName)) ∈ lw_all := lw_g (lw_at lw_m34 220 rfl) rfl
theorem q8533 : (Jvm.Cond.privateMethod ({ cls := "WasteHouseModel$HazardRulesModel", name := "split", desc := "()V" } : Jvm.MethodName)) ∈ lw_tbl := lw_at lw_m34 221 rfl
theorem q8534 : (Jvm.Cond.instanceMethod ({ cls := "WasteHouseModel$HazardRulesModel", name := "split", desc := "()V" } : Jvm.MethodName)) ∈ lw_all := lw_g (lw_at lw_m34 222 rfl) rfl
theorem q8535 : (Jvm.Cond.code ({ cls := "WasteHouseModel$HazardRulesModel", name := "split", desc := "()V" } : Jvm.MethodName) prog_60_method_5_code (3 : Nat) (Option.none : Option Jvm.ClassFile.FieldType)) ∈ lw_all := lw_g (lw_at lw_m34 223 rfl) rfl
theorem q8536 : (Jvm.Cond.methodLink "WasteHouseModel$HazardRulesModel" (77 : Nat) ({ cls := "WasteHouseModel$HazardRulesModel", name := "isGap", desc := "(I)Z" } : Jvm.MethodName)) ∈ lw_all := lw_g (lw_at lw_m34 224 rfl) rfl
theorem q8537 : (Jvm.Cond.static ({ cls := "WasteHouseModel$HazardRulesModel", name := "isGap", desc := "(I)Z" } : Jvm.MethodName)) ∈ lw_all := lw_g (lw_at lw_m34 225 rfl) rfl
theorem q8538 : (Jvm.Cond.code ({ cls := "WasteHouseModel$HazardRulesModel", name := "isGap", desc := "(I)Z" } : Jvm.MethodName) prog_60_method_4_code (1 : Nat) (Option.some Jvm.ClassFile.FieldType.boolean)) ∈ lw_all := lw_g (lw_at lw_m34 226 rfl) rfl
theorem q8539 : (Jvm.Cond.methodLink "WasteHouseModel$HazardRulesModel" (156 : Nat) ({ cls := "WasteHouseModel$HazardRulesModel", name := "eatsAll", desc := "()Z" } : Jvm.MethodName)) ∈ lw_all := lw_g (lw_at lw_m34 227 rfl) rfl
theorem q8540 : (Jvm.Cond.privateMethod ({ cls := "WasteHouseModel$HazardRulesModel", name := "eatsAll", desc := "()Z" } : Jvm.MethodName)) ∈ lw_tbl := lw_at lw_m34 228 rfl
theorem q8541 : (Jvm.Cond.instanceMethod ({ cls := "WasteHouseModel$HazardRulesModel", name := "eatsAll", desc := "()Z" } : Jvm.MethodName)) ∈ lw_all := lw_g (lw_at lw_m34 229 rfl) rfl
theorem q8542 : (Jvm.Cond.code ({ cls := "WasteHouseModel$HazardRulesModel", name := "eatsAll", desc := "()Z" } : Jvm.MethodName) prog_60_method_15_code (4 : Nat) (Option.some Jvm.ClassFile.FieldType.boolean)) ∈ lw_all := lw_g (lw_at lw_m34 230 rfl) rfl
theorem q8543 : (Jvm.Cond.constantLong "WasteHouseModel$HazardRulesModel" (148 : Nat) (6013742957 : Int64)) ∈ lw_all := lw_g (lw_at lw_m34 231 rfl) rfl
theorem q8544 : (Jvm.Cond.methodLink "WasteHouseModel$HazardRulesModel" (100 : Nat) ({ cls := "WasteHouseModel$HazardRulesModel", name := "eats", desc := "(J)Z" } : Jvm.MethodName)) ∈ lw_all := lw_g (lw_at lw_m34 232 rfl) rfl
theorem q8545 : (Jvm.Cond.privateMethod ({ cls := "WasteHouseModel$HazardRulesModel", name := "eats", desc := "(J)Z" } : Jvm.MethodName)) ∈ lw_tbl := lw_at lw_m34 233 rfl
theorem q8546 : (Jvm.Cond.instanceMethod ({ cls := "WasteHouseModel$HazardRulesModel", name := "eats", desc := "(J)Z" } : Jvm.MethodName)) ∈ lw_all := lw_g (lw_at lw_m34 234 rfl) rfl
theorem q8547 : (Jvm.Cond.code ({ cls := "WasteHouseModel$HazardRulesModel", name := "eats", desc := "(J)Z" } : Jvm.MethodName) prog_60_method_9_code (4 : Nat) (Option.some Jvm.ClassFile.FieldType.boolean)) ∈ lw_all := lw_g (lw_at lw_m34 235 rfl) rfl
theorem q8548 : (Jvm.Cond.methodLink "WasteHouseModel$HazardRulesModel" (90 : Nat) ({ cls := "WasteHouseModel$HazardRulesModel", name := "sees", desc := "(J)Z" } : Jvm.MethodName)) ∈ lw_all := lw_g (lw_at lw_m34 236 rfl) rfl
theorem q8549 : (Jvm.Cond.privateMethod ({ cls := "WasteHouseModel$HazardRulesModel", name := "sees", desc := "(J)Z" } : Jvm.MethodName)) ∈ lw_tbl := lw_at lw_m34 237 rfl
theorem q8550 : (Jvm.Cond.instanceMethod ({ cls := "WasteHouseModel$HazardRulesModel", name := "sees", desc := "(J)Z" } : Jvm.MethodName)) ∈ lw_all := lw_g (lw_at lw_m34 238 rfl) rfl
theorem q8551 : (Jvm.Cond.code ({ cls := "WasteHouseModel$HazardRulesModel", name := "sees", desc := "(J)Z" } : Jvm.MethodName) prog_60_method_8_code (3 : Nat) (Option.some Jvm.ClassFile.FieldType.boolean)) ∈ lw_all := lw_g (lw_at lw_m34 239 rfl) rfl
theorem q8552 : (Jvm.Cond.constant "WasteHouseModel$HazardRulesModel" (113 : Nat) (999999999 : Int32)) ∈ lw_all := lw_g (lw_at lw_m35 0 rfl) rfl
theorem q8553 : (Jvm.Cond.methodLink "WasteHouseModel$HazardRulesModel" (105 : Nat) ({ cls := "WasteHouseModel$HazardRulesModel", name := "eatsNumber", desc := "(II)Z" } : Jvm.MethodName)) ∈ lw_all := lw_g (lw_at lw_m35 1 rfl) rfl
theorem q8554 : (Jvm.Cond.privateMethod ({ cls := "WasteHouseModel$HazardRulesModel", name := "eatsNumber", desc := "(II)Z" } : Jvm.MethodName)) ∈ lw_tbl := lw_at lw_m35 2 rfl
theorem q8555 : (Jvm.Cond.instanceMethod ({ cls := "WasteHouseModel$HazardRulesModel", name := "eatsNumber", desc := "(II)Z" } : Jvm.MethodName)) ∈ lw_all := lw_g (lw_at lw_m35 3 rfl) rfl
theorem q8556 : (Jvm.Cond.code ({ cls := "WasteHouseModel$HazardRulesModel", name := "eatsNumber", desc := "(II)Z" } : Jvm.MethodName) prog_60_method_10_code (5 : Nat) (Option.some Jvm.ClassFile.FieldType.boolean)) ∈ lw_all := lw_g (lw_at lw_m35 4 rfl) rfl
theorem q8557 : (Jvm.Cond.constantLong "WasteHouseModel$HazardRulesModel" (137 : Nat) (1526531715955 : Int64)) ∈ lw_all := lw_g (lw_at lw_m35 5 rfl) rfl
theorem q8558 : (Jvm.Cond.methodLink "WasteHouseModel$HazardRulesModel" (150 : Nat) ({ cls := "WasteHouseModel$HazardRulesModel", name := "eatsRule", desc := "()Z" } : Jvm.MethodName)) ∈ lw_all := lw_g (lw_at lw_m35 6 rfl) rfl
theorem q8559 : (Jvm.Cond.privateMethod ({ cls := "WasteHouseModel$HazardRulesModel", name := "eatsRule", desc := "()Z" } : Jvm.MethodName)) ∈ lw_tbl := lw_at lw_m35 7 rfl
theorem q8560 : (Jvm.Cond.instanceMethod ({ cls := "WasteHouseModel$HazardRulesModel", name := "eatsRule", desc := "()Z" } : Jvm.MethodName)) ∈ lw_all := lw_g (lw_at lw_m35 8 rfl) rfl
theorem q8561 : (Jvm.Cond.code ({ cls := "WasteHouseModel$HazardRulesModel", name := "eatsRule", desc := "()Z" } : Jvm.MethodName) prog_60_method_14_code (2 : Nat) (Option.some Jvm.ClassFile.FieldType.boolean)) ∈ lw_all := lw_g (lw_at lw_m35 9 rfl) rfl
theorem q8562 : (Jvm.Cond.constantLong "WasteHouseModel$HazardRulesModel" (139 : Nat) (6298297710 : Int64)) ∈ lw_all := lw_g (lw_at lw_m35 10 rfl) rfl
theorem q8563 : (Jvm.Cond.methodLink "WasteHouseModel$HazardRulesModel" (141 : Nat) ({ cls := "WasteHouseModel$HazardRulesModel", name := "eatsItem", desc := "()Z" } : Jvm.MethodName)) ∈ lw_all := lw_g (lw_at lw_m35 11 rfl) rfl
theorem q8564 : (Jvm.Cond.privateMethod ({ cls := "WasteHouseModel$HazardRulesModel", name := "eatsItem", desc := "()Z" } : Jvm.MethodName)) ∈ lw_tbl := lw_at lw_m35 12 rfl
theorem q8565 : (Jvm.Cond.instanceMethod ({ cls := "WasteHouseModel$HazardRulesModel", name := "eatsItem", desc := "()Z" } : Jvm.MethodName)) ∈ lw_all := lw_g (lw_at lw_m35 13 rfl) rfl
theorem q8566 : (Jvm.Cond.code ({ cls := "WasteHouseModel$HazardRulesModel", name := "eatsItem", desc := "()Z" } : Jvm.MethodName) prog_60_method_13_code (1 : Nat) (Option.some Jvm.ClassFile.FieldType.boolean)) ∈ lw_all := lw_g (lw_at lw_m35 14 rfl) rfl
theorem q8567 : (Jvm.Cond.constantLong "WasteHouseModel$HazardRulesModel" (128 : Nat) (24014708 : Int64)) ∈ lw_all := lw_g (lw_at lw_m35 15 rfl) rfl
theorem q8568 : (Jvm.Cond.constantLong "WasteHouseModel$HazardRulesModel" (132 : Nat) (24343917 : Int64)) ∈ lw_all := lw_g (lw_at lw_m35 16 rfl) rfl
theorem q8569 : (Jvm.Cond.methodLink "WasteHouseModel$HazardRulesModel" (134 : Nat) ({ cls := "WasteHouseModel$HazardRulesModel", name := "eatsSum", desc := "()Z" } : Jvm.MethodName)) ∈ lw_all := lw_g (lw_at lw_m35 17 rfl) rfl
theorem q8570 : (Jvm.Cond.privateMethod ({ cls := "WasteHouseModel$HazardRulesModel", name := "eatsSum", desc := "()Z" } : Jvm.MethodName)) ∈ lw_tbl := lw_at lw_m35 18 rfl
theorem q8571 : (Jvm.Cond.instanceMethod ({ cls := "WasteHouseModel$HazardRulesModel", name := "eatsSum", desc := "()Z" } : Jvm.MethodName)) ∈ lw_all := lw_g (lw_at lw_m35 19 rfl) rfl
theorem q8572 : (Jvm.Cond.code ({ cls := "WasteHouseModel$HazardRulesModel", name := "eatsSum", desc := "()Z" } : Jvm.MethodName) prog_60_method_12_code (2 : Nat) (Option.some Jvm.ClassFile.FieldType.boolean)) ∈ lw_all := lw_g (lw_at lw_m35 20 rfl) rfl
theorem q8573 : (Jvm.Cond.methodLink "WasteHouseModel$HazardRulesModel" (116 : Nat) ({ cls := "WasteHouseModel$HazardRulesModel", name := "eatsTerm", desc := "()Z" } : Jvm.MethodName)) ∈ lw_all := lw_g (lw_at lw_m35 21 rfl) rfl
theorem q8574 : (Jvm.Cond.privateMethod ({ cls := "WasteHouseModel$HazardRulesModel", name := "eatsTerm", desc := "()Z" } : Jvm.MethodName)) ∈ lw_tbl := lw_at lw_m35 22 rfl
theorem q8575 : (Jvm.Cond.instanceMethod ({ cls := "WasteHouseModel$HazardRulesModel", name := "eatsTerm", desc := "()Z" } : Jvm.MethodName)) ∈ lw_all := lw_g (lw_at lw_m35 23 rfl) rfl
theorem q8576 : (Jvm.Cond.code ({ cls := "WasteHouseModel$HazardRulesModel", name := "eatsTerm", desc := "()Z" } : Jvm.MethodName) prog_60_method_11_code (2 : Nat) (Option.some Jvm.ClassFile.FieldType.boolean)) ∈ lw_all := lw_g (lw_at lw_m35 24 rfl) rfl
theorem q8577 : (Jvm.Cond.constantLong "WasteHouseModel$HazardRulesModel" (109 : Nat) (94054 : Int64)) ∈ lw_all := lw_g (lw_at lw_m35 25 rfl) rfl
theorem q8578 : (Jvm.Cond.constantLong "WasteHouseModel$HazardRulesModel" (122 : Nat) (1603874874738 : Int64)) ∈ lw_all := lw_g (lw_at lw_m35 26 rfl) rfl
theorem q8585 : (Jvm.Cond.instanceMethod ({ cls := "WasteHouseModel$HazardRulesModel", name := "test", desc := "(II)Z" } : Jvm.MethodName)) ∈ lw_all := lw_g (lw_at lw_m35 33 rfl) rfl
theorem q8586 : (Jvm.Cond.selects "WasteHouseModel$HazardRulesModel" ({ cls := "WasteHouseModel$HazardRulesModel", name := "test", desc := "(II)Z" } : Jvm.MethodName) ({ cls := "WasteHouseModel$HazardRulesModel", name := "test", desc := "(II)Z" } : Jvm.MethodName)) ∈ lw_all := lw_g (lw_at lw_m35 34 rfl) rfl
theorem q8587 : (Jvm.Cond.code ({ cls := "WasteHouseModel$HazardRulesModel", name := "test", desc := "(II)Z" } : Jvm.MethodName) prog_60_method_22_code (3 : Nat) (Option.some Jvm.ClassFile.FieldType.boolean)) ∈ lw_all := lw_g (lw_at lw_m35 35 rfl) rfl
theorem q8590 : (Jvm.Cond.instanceMethod ({ cls := "WasteHouseModel$HazardRulesModel", name := "clearParts", desc := "()V" } : Jvm.MethodName)) ∈ lw_all := lw_g (lw_at lw_m35 38 rfl) rfl
theorem q8591 : (Jvm.Cond.selects "WasteHouseModel$HazardRulesModel" ({ cls := "WasteHouseModel$HazardRulesModel", name := "clearParts", desc := "()V" } : Jvm.MethodName) ({ cls := "WasteHouseModel$HazardRulesModel", name := "clearParts", desc := "()V" } : Jvm.MethodName)) ∈ lw_all := lw_g (lw_at lw_m35 39 rfl) rfl
theorem q8592 : (Jvm.Cond.code ({ cls := "WasteHouseModel$HazardRulesModel", name := "clearParts", desc := "()V" } : Jvm.MethodName) prog_60_method_23_code (2 : Nat) (Option.none : Option Jvm.ClassFile.FieldType)) ∈ lw_all := lw_g (lw_at lw_m35 40 rfl) rfl
theorem q8596 : (Jvm.Cond.instanceMethod ({ cls := "WasteHouseModel$HazardRulesModel", name := "way", desc := "(Z)Z" } : Jvm.MethodName)) ∈ lw_all := lw_g (lw_at lw_m35 44 rfl) rfl
theorem q8597 : (Jvm.Cond.selects "WasteHouseModel$HazardRulesModel" ({ cls := "WasteHouseModel$HazardRulesModel", name := "way", desc := "(Z)Z" } : Jvm.MethodName) ({ cls := "WasteHouseModel$HazardRulesModel", name := "way", desc := "(Z)Z" } : Jvm.MethodName)) ∈ lw_all := lw_g (lw_at lw_m35 45 rfl) rfl
theorem q8598 : (Jvm.Cond.code ({ cls := "WasteHouseModel$HazardRulesModel", name := "way", desc := "(Z)Z" } : Jvm.MethodName) prog_60_method_24_code (3 : Nat) (Option.some Jvm.ClassFile.FieldType.boolean)) ∈ lw_all := lw_g (lw_at lw_m35 46 rfl) rfl
theorem q8602 : (Jvm.Cond.instanceMethod ({ cls := "WasteHouseModel$HazardRulesModel", name := "walk", desc := "(J)I" } : Jvm.MethodName)) ∈ lw_all := lw_g (lw_at lw_m35 50 rfl) rfl
theorem q8603 : (Jvm.Cond.selects "WasteHouseModel$HazardRulesModel" ({ cls := "WasteHouseModel$HazardRulesModel", name := "walk", desc := "(J)I" } : Jvm.MethodName) ({ cls := "WasteHouseModel$HazardRulesModel", name := "walk", desc := "(J)I" } : Jvm.MethodName)) ∈ lw_all := lw_g (lw_at lw_m35 51 rfl) rfl
theorem q8604 : (Jvm.Cond.code ({ cls := "WasteHouseModel$HazardRulesModel", name := "walk", desc := "(J)I" } : Jvm.MethodName) prog_60_method_38_code (3 : Nat) (Option.some Jvm.ClassFile.FieldType.int)) ∈ lw_all := lw_g (lw_at lw_m35 52 rfl) rfl
theorem q8605 : (Jvm.Cond.methodLink "WasteHouseModel$HazardRulesModel" (238 : Nat) ({ cls := "WasteHouseModel$HazardRulesModel", name := "run", desc := "(J)I" } : Jvm.MethodName)) ∈ lw_all := lw_g (lw_at lw_m35 53 rfl) rfl
theorem q8609 : (Jvm.Cond.instanceMethod ({ cls := "WasteHouseModel$HazardRulesModel", name := "mark", desc := "(I)I" } : Jvm.MethodName)) ∈ lw_all := lw_g (lw_at lw_m35 57 rfl) rfl
theorem q8610 : (Jvm.Cond.selects "WasteHouseModel$HazardRulesModel" ({ cls := "WasteHouseModel$HazardRulesModel", name := "mark", desc := "(I)I" } : Jvm.MethodName) ({ cls := "WasteHouseModel$HazardRulesModel", name := "mark", desc := "(I)I" } : Jvm.MethodName)) ∈ lw_all := lw_g (lw_at lw_m35 58 rfl) rfl
theorem q8611 : (Jvm.Cond.code ({ cls := "WasteHouseModel$HazardRulesModel", name := "mark", desc := "(I)I" } : Jvm.MethodName) prog_60_method_40_code (2 : Nat) (Option.some Jvm.ClassFile.FieldType.int)) ∈ lw_all := lw_g (lw_at lw_m35 59 rfl) rfl
theorem q8617 : (Jvm.Cond.instanceMethod ({ cls := "WasteHouseModel$HazardRulesModel", name := "missing", desc := "(I)I" } : Jvm.MethodName)) ∈ lw_all := lw_g (lw_at lw_m35 65 rfl) rfl
theorem q8618 : (Jvm.Cond.selects "WasteHouseModel$HazardRulesModel" ({ cls := "WasteHouseModel$HazardRulesModel", name := "missing", desc := "(I)I" } : Jvm.MethodName) ({ cls := "WasteHouseModel$HazardRulesModel", name := "missing", desc := "(I)I" } : Jvm.MethodName)) ∈ lw_all := lw_g (lw_at lw_m35 66 rfl) rfl
theorem q8619 : (Jvm.Cond.code ({ cls := "WasteHouseModel$HazardRulesModel", name := "missing", desc := "(I)I" } : Jvm.MethodName) prog_60_method_45_code (7 : Nat) (Option.some Jvm.ClassFile.FieldType.int)) ∈ lw_all := lw_g (lw_at lw_m35 67 rfl) rfl
theorem q8622 : (Jvm.Cond.instanceMethod ({ cls := "WasteHouseModel$HazardRulesModel", name := "explain", desc := "(III)I" } : Jvm.MethodName)) ∈ lw_all := lw_g (lw_at lw_m35 70 rfl) rfl
theorem q8623 : (Jvm.Cond.selects "WasteHouseModel$HazardRulesModel" ({ cls := "WasteHouseModel$HazardRulesModel", name := "explain", desc := "(III)I" } : Jvm.MethodName) ({ cls := "WasteHouseModel$HazardRulesModel", name := "explain", desc := "(III)I" } : Jvm.MethodName)) ∈ lw_all := lw_g (lw_at lw_m35 71 rfl) rfl
theorem q8624 : (Jvm.Cond.code ({ cls := "WasteHouseModel$HazardRulesModel", name := "explain", desc := "(III)I" } : Jvm.MethodName) prog_60_method_46_code (6 : Nat) (Option.some Jvm.ClassFile.FieldType.int)) ∈ lw_all := lw_g (lw_at lw_m35 72 rfl) rfl
theorem q8625 : (Jvm.Cond.methodLink "WasteHouseModel$HazardRulesModel" (250 : Nat) ({ cls := "WasteHouseModel$HazardRulesModel", name := "items", desc := "(I)I" } : Jvm.MethodName)) ∈ lw_all := lw_g (lw_at lw_m35 73 rfl) rfl
theorem q8626 : (Jvm.Cond.privateMethod ({ cls := "WasteHouseModel$HazardRulesModel", name := "items", desc := "(I)I" } : Jvm.MethodName)) ∈ lw_tbl := lw_at lw_m35 74 rfl
theorem q8627 : (Jvm.Cond.instanceMethod ({ cls := "WasteHouseModel$HazardRulesModel", name := "items", desc := "(I)I" } : Jvm.MethodName)) ∈ lw_all := lw_g (lw_at lw_m35 75 rfl) rfl
theorem q8628 : (Jvm.Cond.code ({ cls := "WasteHouseModel$HazardRulesModel", name := "items", desc := "(I)I" } : Jvm.MethodName) prog_60_method_47_code (4 : Nat) (Option.some Jvm.ClassFile.FieldType.int)) ∈ lw_all := lw_g (lw_at lw_m35 76 rfl) rfl
theorem q8631 : (Jvm.Cond.instanceMethod ({ cls := "WasteHouseModel$HazardRulesModel", name := "limit", desc := "(I)J" } : Jvm.MethodName)) ∈ lw_all := lw_g (lw_at lw_m35 79 rfl) rfl
theorem q8632 : (Jvm.Cond.selects "WasteHouseModel$HazardRulesModel" ({ cls := "WasteHouseModel$HazardRulesModel", name := "limit", desc := "(I)J" } : Jvm.MethodName) ({ cls := "WasteHouseModel$HazardRulesModel", name := "limit", desc := "(I)J" } : Jvm.MethodName)) ∈ lw_all := lw_g (lw_at lw_m35 80 rfl) rfl
theorem q8633 : (Jvm.Cond.code ({ cls := "WasteHouseModel$HazardRulesModel", name := "limit", desc := "(I)J" } : Jvm.MethodName) prog_60_method_48_code (7 : Nat) (Option.some Jvm.ClassFile.FieldType.long)) ∈ lw_all := lw_g (lw_at lw_m35 81 rfl) rfl
theorem q8634 : (Jvm.Cond.constantLong "WasteHouseModel$HazardRulesModel" (253 : Nat) (-1 : Int64)) ∈ lw_all := lw_g (lw_at lw_m35 82 rfl) rfl
theorem q8637 : (Jvm.Cond.instanceMethod ({ cls := "WasteHouseModel$HazardRulesModel", name := "sum", desc := "(III)J" } : Jvm.MethodName)) ∈ lw_all := lw_g (lw_at lw_m35 85 rfl) rfl
theorem q8638 : (Jvm.Cond.selects "WasteHouseModel$HazardRulesModel" ({ cls := "WasteHouseModel$HazardRulesModel", name := "sum", desc := "(III)J" } : Jvm.MethodName) ({ cls := "WasteHouseModel$HazardRulesModel", name := "sum", desc := "(III)J" } : Jvm.MethodName)) ∈ lw_all := lw_g (lw_at lw_m35 86 rfl) rfl
theorem q8639 : (Jvm.Cond.code ({ cls := "WasteHouseModel$HazardRulesModel", name := "sum", desc := "(III)J" } : Jvm.MethodName) prog_60_method_49_code (5 : Nat) (Option.some Jvm.ClassFile.FieldType.long)) ∈ lw_all := lw_g (lw_at lw_m35 87 rfl) rfl
theorem q8642 : (Jvm.Cond.instanceMethod ({ cls := "WasteHouseModel$HazardRulesModel", name := "table", desc := "(II)I" } : Jvm.MethodName)) ∈ lw_all := lw_g (lw_at lw_m35 90 rfl) rfl
theorem q8643 : (Jvm.Cond.selects "WasteHouseModel$HazardRulesModel" ({ cls := "WasteHouseModel$HazardRulesModel", name := "table", desc := "(II)I" } : Jvm.MethodName) ({ cls := "WasteHouseModel$HazardRulesModel", name := "table", desc := "(II)I" } : Jvm.MethodName)) ∈ lw_all := lw_g (lw_at lw_m35 91 rfl) rfl
theorem q8644 : (Jvm.Cond.code ({ cls := "WasteHouseModel$HazardRulesModel", name := "table", desc := "(II)I" } : Jvm.MethodName) prog_60_method_50_code (5 : Nat) (Option.some Jvm.ClassFile.FieldType.int)) ∈ lw_all := lw_g (lw_at lw_m35 92 rfl) rfl
theorem q8647 : (Jvm.Cond.instanceMethod ({ cls := "WasteHouseModel$HazardRulesModel", name := "write", desc := "(I)I" } : Jvm.MethodName)) ∈ lw_all := lw_g (lw_at lw_m35 95 rfl) rfl
theorem q8648 : (Jvm.Cond.selects "WasteHouseModel$HazardRulesModel" ({ cls := "WasteHouseModel$HazardRulesModel", name := "write", desc := "(I)I" } : Jvm.MethodName) ({ cls := "WasteHouseModel$HazardRulesModel", name := "write", desc := "(I)I" } : Jvm.MethodName)) ∈ lw_all := lw_g (lw_at lw_m35 96 rfl) rfl
theorem q8649 : (Jvm.Cond.code ({ cls := "WasteHouseModel$HazardRulesModel", name := "write", desc := "(I)I" } : Jvm.MethodName) prog_60_method_20_code (5 : Nat) (Option.some Jvm.ClassFile.FieldType.int)) ∈ lw_all := lw_g (lw_at lw_m35 97 rfl) rfl
theorem q8651 : (Jvm.Cond.instanceMethod ({ cls := "WasteHouseModel$HazardRulesModel", name := "thrown", desc := "()I" } : Jvm.MethodName)) ∈ lw_all := lw_g (lw_at lw_m35 99 rfl) rfl
theorem q8652 : (Jvm.Cond.selects "WasteHouseModel$HazardRulesModel" ({ cls := "WasteHouseModel$HazardRulesModel", name := "thrown", desc := "()I" } : Jvm.MethodName) ({ cls := "WasteHouseModel$HazardRulesModel", name := "thrown", desc := "()I" } : Jvm.MethodName)) ∈ lw_all := lw_g (lw_at lw_m35 100 rfl) rfl
theorem q8653 : (Jvm.Cond.code ({ cls := "WasteHouseModel$HazardRulesModel", name := "thrown", desc := "()I" } : Jvm.MethodName) prog_60_method_2_code (1 : Nat) (Option.some Jvm.ClassFile.FieldType.int)) ∈ lw_all := lw_g (lw_at lw_m35 101 rfl) rfl
theorem q9674 : (Jvm.Cond.castable "WasteHouseModel$HazardRulesModel" "java/lang/Object") ∈ lw_tbl := lw_at lw_m39 162 rfl
theorem in_X51 : ∀ w ∈ wsX510, w ∈ lw_all := lw_in wsX510 [6916, 6918, 6920, 6922, 6924, 6926, 6928, 6930, 6932, 6934, 6936, 6938, 6940, 6942, 6944, 6946, 6948, 6950, 6952, 6954, 6956, 6958, 6960, 6962, 6964, 6966, 6968, 6970, 6972] (by decide +kernel) (by decide +kernel)
