/-! WasteHouseModel -/
set_option maxRecDepth 100000
def RX48 : String := "WasteHouseModel"
def TX48 : u_T := fun k => match k with
  | 0 => ("WasteHouseModel", "tickets", "LWasteHouseModel$TicketChainModel;", true)
  | 1 => ("WasteHouseModel", "line", "LWasteHouseModel$ShareSolveModel;", true)
  | 2 => ("WasteHouseModel", "hazards", "LWasteHouseModel$HazardRulesModel;", true)
  | 3 => ("WasteHouseModel", "rounds", "LWasteHouseModel$RoundColumnsModel;", true)
  | 4 => ("WasteHouseModel", "store", "LWasteHouseModel$BarredStoresModel;", true)
  | 5 => ("WasteHouseModel", "product", "LWasteHouseModel$PartGraphsModel;", true)
  | 6 => ("WasteHouseModel", "apart", "LWasteHouseModel$ApartCostModel;", true)
  | 7 => ("WasteHouseModel", "samples", "LWasteHouseModel$PurityOddsModel;", true)
  | 8 => ("WasteHouseModel", "deposits", "LWasteHouseModel$DepositCodesModel;", true)
  | 9 => ("WasteHouseModel", "tape", "[B", true)
  | 10 => ("WasteHouseModel", "size", "I", false)
  | 11 => ("WasteHouseModel", "fault", "I", false)
  | 12 => ("WasteHouseModel", "printed", "[B", true)
  | 13 => ("WasteHouseModel", "printedSize", "I", false)
  | 14 => ("WasteHouseModel", "answers", "[J", true)
  | 15 => ("WasteHouseModel", "done", "I", false)
  | 16 => ("WasteHouseModel", "wrongWord", "I", false)
  | 17 => ("WasteHouseModel", "starts", "[I", true)
  | 18 => ("WasteHouseModel", "ends", "[I", true)
  | 19 => ("WasteHouseModel", "words", "I", false)
  | 20 => ("WasteHouseModel", "lineEnd", "I", false)
  | 21 => ("WasteHouseModel", "wrong", "I", false)
  | 22 => ("WasteHouseModel", "isFound", "Z", false)
  | 23 => ("WasteHouseModel", "hasThrown", "Z", false)
  | 24 => ("WasteHouseModel", "x", "[J", true)
  | 25 => ("WasteHouseModel", "brought", "[J", true)
  | 26 => ("WasteHouseModel", "sold", "[Z", true)
  | 27 => ("WasteHouseModel", "balances", "[J", true)
  | 28 => ("WasteHouseModel", "debits", "[I", true)
  | 29 => ("WasteHouseModel", "credits", "[I", true)
  | 30 => ("WasteHouseModel", "cents", "[J", true)
  | 31 => ("WasteHouseModel", "entries", "I", false)
  | 32 => ("WasteHouseModel", "acts", "[I", true)
  | _ => ("WasteHouseModel", "isNumber", "Z", false)
def tyX48 : Nat → FieldType := fun k => match k with
  | 0 => .object "WasteHouseModel$TicketChainModel"
  | 1 => .object "WasteHouseModel$ShareSolveModel"
  | 2 => .object "WasteHouseModel$HazardRulesModel"
  | 3 => .object "WasteHouseModel$RoundColumnsModel"
  | 4 => .object "WasteHouseModel$BarredStoresModel"
  | 5 => .object "WasteHouseModel$PartGraphsModel"
  | 6 => .object "WasteHouseModel$ApartCostModel"
  | 7 => .object "WasteHouseModel$PurityOddsModel"
  | 8 => .object "WasteHouseModel$DepositCodesModel"
  | 9 => .array .byte
  | 10 => .int
  | 11 => .int
  | 12 => .array .byte
  | 13 => .int
  | 14 => .array .long
  | 15 => .int
  | 16 => .int
  | 17 => .array .int
  | 18 => .array .int
  | 19 => .int
  | 20 => .int
  | 21 => .int
  | 22 => .boolean
  | 23 => .boolean
  | 24 => .array .long
  | 25 => .array .long
  | 26 => .array .boolean
  | 27 => .array .long
  | 28 => .array .int
  | 29 => .array .int
  | 30 => .array .long
  | 31 => .int
  | 32 => .array .int
  | _ => .boolean
abbrev wsX480 : List Cond := u_ws RX48 TX48 34
set_option maxRecDepth 100000 in
theorem nmX48 : ∀ a, a < 34 → ∀ b, b < 34 → a ≠ b → (TX48 a).2.1 ≠ (TX48 b).2.1 := by decide +kernel
set_option maxRecDepth 100000 in
theorem tyX48_ok : ∀ k, k < 34 → parseFieldDescriptor (TX48 k).2.2.1 = some (tyX48 k) := by decide +kernel
abbrev cX48_init : ByteArray := prog_56_method_1_code
def yX48_init : MethodName := ⟨RX48, "<init>", "()V"⟩
def dkwX48_init_9 : List UInt8 := [17, 1, 244, 188, 11, 181, 0, 118, 42, 16, 10, 188, 10, 181, 0, 121, 177]
abbrev dktX48_init_9 : List UInt8 := dkwX48_init_9 ++ []
def dkwX48_init_8 : List UInt8 := [181, 0, 109, 42, 17, 1, 244, 188, 10, 181, 0, 112, 42, 17, 1, 244, 188, 10, 181, 0, 115, 42]
abbrev dktX48_init_8 : List UInt8 := dkwX48_init_8 ++ dktX48_init_9
def dkwX48_init_7 : List UInt8 := [181, 0, 99, 42, 6, 188, 11, 181, 0, 102, 42, 16, 6, 188, 4, 181, 0, 105, 42, 16, 16, 188, 11]
abbrev dktX48_init_7 : List UInt8 := dkwX48_init_7 ++ dktX48_init_8
def dkwX48_init_6 : List UInt8 := [17, 15, 161, 188, 10, 181, 0, 92, 42, 17, 15, 161, 188, 10, 181, 0, 96, 42, 16, 8, 188, 11]
abbrev dktX48_init_6 : List UInt8 := dkwX48_init_6 ++ dktX48_init_7
def dkwX48_init_5 : List UInt8 := [18, 80, 188, 8, 181, 0, 81, 42, 17, 15, 161, 188, 11, 181, 0, 84, 42, 2, 181, 0, 88, 42]
abbrev dktX48_init_5 : List UInt8 := dkwX48_init_5 ++ dktX48_init_6
def dkwX48_init_4 : List UInt8 := [181, 0, 65, 42, 187, 0, 69, 89, 183, 0, 71, 181, 0, 72, 42, 17, 31, 84, 188, 8, 181, 0, 76, 42]
abbrev dktX48_init_4 : List UInt8 := dkwX48_init_4 ++ dktX48_init_5
def dkwX48_init_3 : List UInt8 := [181, 0, 49, 42, 187, 0, 53, 89, 183, 0, 55, 181, 0, 56, 42, 187, 0, 60, 89, 10, 183, 0, 62]
abbrev dktX48_init_3 : List UInt8 := dkwX48_init_3 ++ dktX48_init_4
def dkwX48_init_2 : List UInt8 := [181, 0, 35, 42, 187, 0, 39, 89, 183, 0, 41, 181, 0, 42, 42, 187, 0, 46, 89, 183, 0, 48]
abbrev dktX48_init_2 : List UInt8 := dkwX48_init_2 ++ dktX48_init_3
def dkwX48_init_1 : List UInt8 := [181, 0, 21, 42, 187, 0, 25, 89, 183, 0, 27, 181, 0, 28, 42, 187, 0, 32, 89, 183, 0, 34]
abbrev dktX48_init_1 : List UInt8 := dkwX48_init_1 ++ dktX48_init_2
def dkwX48_init_0 : List UInt8 := [42, 183, 0, 1, 42, 187, 0, 7, 89, 183, 0, 9, 181, 0, 10, 42, 187, 0, 16, 89, 6, 183, 0, 18]
abbrev dktX48_init_0 : List UInt8 := dkwX48_init_0 ++ dktX48_init_1
theorem dksX48_init_0 : cX48_init.data.toList.drop 0 = dktX48_init_0 := by decide +kernel
theorem dksX48_init_1 : cX48_init.data.toList.drop 24 = dktX48_init_1 := dk_seg dksX48_init_0 24 rfl rfl
theorem dksX48_init_2 : cX48_init.data.toList.drop 46 = dktX48_init_2 := dk_seg dksX48_init_1 22 rfl rfl
theorem dksX48_init_3 : cX48_init.data.toList.drop 68 = dktX48_init_3 := dk_seg dksX48_init_2 22 rfl rfl
theorem dksX48_init_4 : cX48_init.data.toList.drop 91 = dktX48_init_4 := dk_seg dksX48_init_3 23 rfl rfl
theorem dksX48_init_5 : cX48_init.data.toList.drop 115 = dktX48_init_5 := dk_seg dksX48_init_4 24 rfl rfl
theorem dksX48_init_6 : cX48_init.data.toList.drop 137 = dktX48_init_6 := dk_seg dksX48_init_5 22 rfl rfl
theorem dksX48_init_7 : cX48_init.data.toList.drop 159 = dktX48_init_7 := dk_seg dksX48_init_6 22 rfl rfl
theorem dksX48_init_8 : cX48_init.data.toList.drop 182 = dktX48_init_8 := dk_seg dksX48_init_7 23 rfl rfl
theorem dksX48_init_9 : cX48_init.data.toList.drop 204 = dktX48_init_9 := dk_seg dksX48_init_8 22 rfl rfl
theorem dX48_init_0 : decode cX48_init 0 = .ok (.aload_n 0, 1) := dk_42 (dk_at dksX48_init_0 0 rfl rfl)
theorem dX48_init_1 : decode cX48_init 1 = .ok (.invokespecial 1, 3) := dk_183 0 1 (dk_at dksX48_init_0 1 rfl rfl)
theorem dX48_init_4 : decode cX48_init 4 = .ok (.aload_n 0, 1) := dk_42 (dk_at dksX48_init_0 4 rfl rfl)
theorem dX48_init_5 : decode cX48_init 5 = .ok (.new 7, 3) := dk_187 0 7 (dk_at dksX48_init_0 5 rfl rfl)
theorem dX48_init_8 : decode cX48_init 8 = .ok (.dup, 1) := dk_89 (dk_at dksX48_init_0 8 rfl rfl)
theorem dX48_init_9 : decode cX48_init 9 = .ok (.invokespecial 9, 3) := dk_183 0 9 (dk_at dksX48_init_0 9 rfl rfl)
theorem dX48_init_12 : decode cX48_init 12 = .ok (.putfield 10, 3) := dk_181 0 10 (dk_at dksX48_init_0 12 rfl rfl)
theorem dX48_init_15 : decode cX48_init 15 = .ok (.aload_n 0, 1) := dk_42 (dk_at dksX48_init_0 15 rfl rfl)
theorem dX48_init_16 : decode cX48_init 16 = .ok (.new 16, 3) := dk_187 0 16 (dk_at dksX48_init_0 16 rfl rfl)
theorem dX48_init_19 : decode cX48_init 19 = .ok (.dup, 1) := dk_89 (dk_at dksX48_init_0 19 rfl rfl)
theorem dX48_init_20 : decode cX48_init 20 = .ok (.iconst 3, 1) := dk_6 (dk_at dksX48_init_0 20 rfl rfl)
theorem dX48_init_21 : decode cX48_init 21 = .ok (.invokespecial 18, 3) := dk_183 0 18 (dk_at dksX48_init_0 21 rfl rfl)
theorem dX48_init_24 : decode cX48_init 24 = .ok (.putfield 21, 3) := dk_181 0 21 (dk_at dksX48_init_1 0 rfl rfl)
theorem dX48_init_27 : decode cX48_init 27 = .ok (.aload_n 0, 1) := dk_42 (dk_at dksX48_init_1 3 rfl rfl)
theorem dX48_init_28 : decode cX48_init 28 = .ok (.new 25, 3) := dk_187 0 25 (dk_at dksX48_init_1 4 rfl rfl)
theorem dX48_init_31 : decode cX48_init 31 = .ok (.dup, 1) := dk_89 (dk_at dksX48_init_1 7 rfl rfl)
theorem dX48_init_32 : decode cX48_init 32 = .ok (.invokespecial 27, 3) := dk_183 0 27 (dk_at dksX48_init_1 8 rfl rfl)
theorem dX48_init_35 : decode cX48_init 35 = .ok (.putfield 28, 3) := dk_181 0 28 (dk_at dksX48_init_1 11 rfl rfl)
theorem dX48_init_38 : decode cX48_init 38 = .ok (.aload_n 0, 1) := dk_42 (dk_at dksX48_init_1 14 rfl rfl)
theorem dX48_init_39 : decode cX48_init 39 = .ok (.new 32, 3) := dk_187 0 32 (dk_at dksX48_init_1 15 rfl rfl)
theorem dX48_init_42 : decode cX48_init 42 = .ok (.dup, 1) := dk_89 (dk_at dksX48_init_1 18 rfl rfl)
theorem dX48_init_43 : decode cX48_init 43 = .ok (.invokespecial 34, 3) := dk_183 0 34 (dk_at dksX48_init_1 19 rfl rfl)
theorem dX48_init_46 : decode cX48_init 46 = .ok (.putfield 35, 3) := dk_181 0 35 (dk_at dksX48_init_2 0 rfl rfl)
theorem dX48_init_49 : decode cX48_init 49 = .ok (.aload_n 0, 1) := dk_42 (dk_at dksX48_init_2 3 rfl rfl)
theorem dX48_init_50 : decode cX48_init 50 = .ok (.new 39, 3) := dk_187 0 39 (dk_at dksX48_init_2 4 rfl rfl)
theorem dX48_init_53 : decode cX48_init 53 = .ok (.dup, 1) := dk_89 (dk_at dksX48_init_2 7 rfl rfl)
theorem dX48_init_54 : decode cX48_init 54 = .ok (.invokespecial 41, 3) := dk_183 0 41 (dk_at dksX48_init_2 8 rfl rfl)
theorem dX48_init_57 : decode cX48_init 57 = .ok (.putfield 42, 3) := dk_181 0 42 (dk_at dksX48_init_2 11 rfl rfl)
theorem dX48_init_60 : decode cX48_init 60 = .ok (.aload_n 0, 1) := dk_42 (dk_at dksX48_init_2 14 rfl rfl)
theorem dX48_init_61 : decode cX48_init 61 = .ok (.new 46, 3) := dk_187 0 46 (dk_at dksX48_init_2 15 rfl rfl)
theorem dX48_init_64 : decode cX48_init 64 = .ok (.dup, 1) := dk_89 (dk_at dksX48_init_2 18 rfl rfl)
theorem dX48_init_65 : decode cX48_init 65 = .ok (.invokespecial 48, 3) := dk_183 0 48 (dk_at dksX48_init_2 19 rfl rfl)
theorem dX48_init_68 : decode cX48_init 68 = .ok (.putfield 49, 3) := dk_181 0 49 (dk_at dksX48_init_3 0 rfl rfl)
theorem dX48_init_71 : decode cX48_init 71 = .ok (.aload_n 0, 1) := dk_42 (dk_at dksX48_init_3 3 rfl rfl)
theorem dX48_init_72 : decode cX48_init 72 = .ok (.new 53, 3) := dk_187 0 53 (dk_at dksX48_init_3 4 rfl rfl)
theorem dX48_init_75 : decode cX48_init 75 = .ok (.dup, 1) := dk_89 (dk_at dksX48_init_3 7 rfl rfl)
theorem dX48_init_76 : decode cX48_init 76 = .ok (.invokespecial 55, 3) := dk_183 0 55 (dk_at dksX48_init_3 8 rfl rfl)
theorem dX48_init_79 : decode cX48_init 79 = .ok (.putfield 56, 3) := dk_181 0 56 (dk_at dksX48_init_3 11 rfl rfl)
theorem dX48_init_82 : decode cX48_init 82 = .ok (.aload_n 0, 1) := dk_42 (dk_at dksX48_init_3 14 rfl rfl)
theorem dX48_init_83 : decode cX48_init 83 = .ok (.new 60, 3) := dk_187 0 60 (dk_at dksX48_init_3 15 rfl rfl)
theorem dX48_init_86 : decode cX48_init 86 = .ok (.dup, 1) := dk_89 (dk_at dksX48_init_3 18 rfl rfl)
theorem dX48_init_87 : decode cX48_init 87 = .ok (.lconst 1, 1) := dk_10 (dk_at dksX48_init_3 19 rfl rfl)
theorem dX48_init_88 : decode cX48_init 88 = .ok (.invokespecial 62, 3) := dk_183 0 62 (dk_at dksX48_init_3 20 rfl rfl)
theorem dX48_init_91 : decode cX48_init 91 = .ok (.putfield 65, 3) := dk_181 0 65 (dk_at dksX48_init_4 0 rfl rfl)
theorem dX48_init_94 : decode cX48_init 94 = .ok (.aload_n 0, 1) := dk_42 (dk_at dksX48_init_4 3 rfl rfl)
theorem dX48_init_95 : decode cX48_init 95 = .ok (.new 69, 3) := dk_187 0 69 (dk_at dksX48_init_4 4 rfl rfl)
theorem dX48_init_98 : decode cX48_init 98 = .ok (.dup, 1) := dk_89 (dk_at dksX48_init_4 7 rfl rfl)
theorem dX48_init_99 : decode cX48_init 99 = .ok (.invokespecial 71, 3) := dk_183 0 71 (dk_at dksX48_init_4 8 rfl rfl)
theorem dX48_init_102 : decode cX48_init 102 = .ok (.putfield 72, 3) := dk_181 0 72 (dk_at dksX48_init_4 11 rfl rfl)
theorem dX48_init_105 : decode cX48_init 105 = .ok (.aload_n 0, 1) := dk_42 (dk_at dksX48_init_4 14 rfl rfl)
theorem dX48_init_106 : decode cX48_init 106 = .ok (.sipush 8020, 3) := dk_17 31 84 (dk_at dksX48_init_4 15 rfl rfl)
theorem dX48_init_109 : decode cX48_init 109 = .ok (.newarray .byte, 2) := dk_188_8 (dk_at dksX48_init_4 18 rfl rfl)
theorem dX48_init_111 : decode cX48_init 111 = .ok (.putfield 76, 3) := dk_181 0 76 (dk_at dksX48_init_4 20 rfl rfl)
theorem dX48_init_114 : decode cX48_init 114 = .ok (.aload_n 0, 1) := dk_42 (dk_at dksX48_init_4 23 rfl rfl)
theorem dX48_init_115 : decode cX48_init 115 = .ok (.ldc 80, 2) := dk_18 80 (dk_at dksX48_init_5 0 rfl rfl)
theorem dX48_init_117 : decode cX48_init 117 = .ok (.newarray .byte, 2) := dk_188_8 (dk_at dksX48_init_5 2 rfl rfl)
theorem dX48_init_119 : decode cX48_init 119 = .ok (.putfield 81, 3) := dk_181 0 81 (dk_at dksX48_init_5 4 rfl rfl)
theorem dX48_init_122 : decode cX48_init 122 = .ok (.aload_n 0, 1) := dk_42 (dk_at dksX48_init_5 7 rfl rfl)
theorem dX48_init_123 : decode cX48_init 123 = .ok (.sipush 4001, 3) := dk_17 15 161 (dk_at dksX48_init_5 8 rfl rfl)
theorem dX48_init_126 : decode cX48_init 126 = .ok (.newarray .long, 2) := dk_188_11 (dk_at dksX48_init_5 11 rfl rfl)
theorem dX48_init_128 : decode cX48_init 128 = .ok (.putfield 84, 3) := dk_181 0 84 (dk_at dksX48_init_5 13 rfl rfl)
theorem dX48_init_131 : decode cX48_init 131 = .ok (.aload_n 0, 1) := dk_42 (dk_at dksX48_init_5 16 rfl rfl)
theorem dX48_init_132 : decode cX48_init 132 = .ok (.iconst (-1), 1) := dk_2 (dk_at dksX48_init_5 17 rfl rfl)
theorem dX48_init_133 : decode cX48_init 133 = .ok (.putfield 88, 3) := dk_181 0 88 (dk_at dksX48_init_5 18 rfl rfl)
theorem dX48_init_136 : decode cX48_init 136 = .ok (.aload_n 0, 1) := dk_42 (dk_at dksX48_init_5 21 rfl rfl)
theorem dX48_init_137 : decode cX48_init 137 = .ok (.sipush 4001, 3) := dk_17 15 161 (dk_at dksX48_init_6 0 rfl rfl)
theorem dX48_init_140 : decode cX48_init 140 = .ok (.newarray .int, 2) := dk_188_10 (dk_at dksX48_init_6 3 rfl rfl)
theorem dX48_init_142 : decode cX48_init 142 = .ok (.putfield 92, 3) := dk_181 0 92 (dk_at dksX48_init_6 5 rfl rfl)
theorem dX48_init_145 : decode cX48_init 145 = .ok (.aload_n 0, 1) := dk_42 (dk_at dksX48_init_6 8 rfl rfl)
theorem dX48_init_146 : decode cX48_init 146 = .ok (.sipush 4001, 3) := dk_17 15 161 (dk_at dksX48_init_6 9 rfl rfl)
theorem dX48_init_149 : decode cX48_init 149 = .ok (.newarray .int, 2) := dk_188_10 (dk_at dksX48_init_6 12 rfl rfl)
theorem dX48_init_151 : decode cX48_init 151 = .ok (.putfield 96, 3) := dk_181 0 96 (dk_at dksX48_init_6 14 rfl rfl)
theorem dX48_init_154 : decode cX48_init 154 = .ok (.aload_n 0, 1) := dk_42 (dk_at dksX48_init_6 17 rfl rfl)
theorem dX48_init_155 : decode cX48_init 155 = .ok (.bipush 8, 2) := dk_16 8 (dk_at dksX48_init_6 18 rfl rfl)
theorem dX48_init_157 : decode cX48_init 157 = .ok (.newarray .long, 2) := dk_188_11 (dk_at dksX48_init_6 20 rfl rfl)
theorem dX48_init_159 : decode cX48_init 159 = .ok (.putfield 99, 3) := dk_181 0 99 (dk_at dksX48_init_7 0 rfl rfl)
theorem dX48_init_162 : decode cX48_init 162 = .ok (.aload_n 0, 1) := dk_42 (dk_at dksX48_init_7 3 rfl rfl)
theorem dX48_init_163 : decode cX48_init 163 = .ok (.iconst 3, 1) := dk_6 (dk_at dksX48_init_7 4 rfl rfl)
theorem dX48_init_164 : decode cX48_init 164 = .ok (.newarray .long, 2) := dk_188_11 (dk_at dksX48_init_7 5 rfl rfl)
theorem dX48_init_166 : decode cX48_init 166 = .ok (.putfield 102, 3) := dk_181 0 102 (dk_at dksX48_init_7 7 rfl rfl)
theorem dX48_init_169 : decode cX48_init 169 = .ok (.aload_n 0, 1) := dk_42 (dk_at dksX48_init_7 10 rfl rfl)
theorem dX48_init_170 : decode cX48_init 170 = .ok (.bipush 6, 2) := dk_16 6 (dk_at dksX48_init_7 11 rfl rfl)
theorem dX48_init_172 : decode cX48_init 172 = .ok (.newarray .boolean, 2) := dk_188_4 (dk_at dksX48_init_7 13 rfl rfl)
theorem dX48_init_174 : decode cX48_init 174 = .ok (.putfield 105, 3) := dk_181 0 105 (dk_at dksX48_init_7 15 rfl rfl)
theorem dX48_init_177 : decode cX48_init 177 = .ok (.aload_n 0, 1) := dk_42 (dk_at dksX48_init_7 18 rfl rfl)
theorem dX48_init_178 : decode cX48_init 178 = .ok (.bipush 16, 2) := dk_16 16 (dk_at dksX48_init_7 19 rfl rfl)
theorem dX48_init_180 : decode cX48_init 180 = .ok (.newarray .long, 2) := dk_188_11 (dk_at dksX48_init_7 21 rfl rfl)
theorem dX48_init_182 : decode cX48_init 182 = .ok (.putfield 109, 3) := dk_181 0 109 (dk_at dksX48_init_8 0 rfl rfl)
theorem dX48_init_185 : decode cX48_init 185 = .ok (.aload_n 0, 1) := dk_42 (dk_at dksX48_init_8 3 rfl rfl)
theorem dX48_init_186 : decode cX48_init 186 = .ok (.sipush 500, 3) := dk_17 1 244 (dk_at dksX48_init_8 4 rfl rfl)
theorem dX48_init_189 : decode cX48_init 189 = .ok (.newarray .int, 2) := dk_188_10 (dk_at dksX48_init_8 7 rfl rfl)
theorem dX48_init_191 : decode cX48_init 191 = .ok (.putfield 112, 3) := dk_181 0 112 (dk_at dksX48_init_8 9 rfl rfl)
theorem dX48_init_194 : decode cX48_init 194 = .ok (.aload_n 0, 1) := dk_42 (dk_at dksX48_init_8 12 rfl rfl)
theorem dX48_init_195 : decode cX48_init 195 = .ok (.sipush 500, 3) := dk_17 1 244 (dk_at dksX48_init_8 13 rfl rfl)
theorem dX48_init_198 : decode cX48_init 198 = .ok (.newarray .int, 2) := dk_188_10 (dk_at dksX48_init_8 16 rfl rfl)
theorem dX48_init_200 : decode cX48_init 200 = .ok (.putfield 115, 3) := dk_181 0 115 (dk_at dksX48_init_8 18 rfl rfl)
theorem dX48_init_203 : decode cX48_init 203 = .ok (.aload_n 0, 1) := dk_42 (dk_at dksX48_init_8 21 rfl rfl)
theorem dX48_init_204 : decode cX48_init 204 = .ok (.sipush 500, 3) := dk_17 1 244 (dk_at dksX48_init_9 0 rfl rfl)
theorem dX48_init_207 : decode cX48_init 207 = .ok (.newarray .long, 2) := dk_188_11 (dk_at dksX48_init_9 3 rfl rfl)
theorem dX48_init_209 : decode cX48_init 209 = .ok (.putfield 118, 3) := dk_181 0 118 (dk_at dksX48_init_9 5 rfl rfl)
theorem dX48_init_212 : decode cX48_init 212 = .ok (.aload_n 0, 1) := dk_42 (dk_at dksX48_init_9 8 rfl rfl)
theorem dX48_init_213 : decode cX48_init 213 = .ok (.bipush 10, 2) := dk_16 10 (dk_at dksX48_init_9 9 rfl rfl)
theorem dX48_init_215 : decode cX48_init 215 = .ok (.newarray .int, 2) := dk_188_10 (dk_at dksX48_init_9 11 rfl rfl)
theorem dX48_init_217 : decode cX48_init 217 = .ok (.putfield 121, 3) := dk_181 0 121 (dk_at dksX48_init_9 13 rfl rfl)
theorem dX48_init_220 : decode cX48_init 220 = .ok (.return_, 1) := dk_177 (dk_at dksX48_init_9 16 rfl rfl)
abbrev cX48_thrown : ByteArray := prog_56_method_2_code
def yX48_thrown : MethodName := ⟨RX48, "thrown", "()I"⟩
theorem dX48_thrown_0 : decode cX48_thrown 0 = .ok (.aload_n 0, 1) := by decide +kernel
theorem dX48_thrown_1 : decode cX48_thrown 1 = .ok (.getfield 124, 3) := by decide +kernel
theorem dX48_thrown_4 : decode cX48_thrown 4 = .ok (.ireturn, 1) := by decide +kernel
abbrev cX48_feed : ByteArray := prog_56_method_4_code
def yX48_feed : MethodName := ⟨RX48, "feed", "(IIIII)V"⟩
def dkwX48_feed_2 : List UInt8 := [182, 0, 130, 42, 21, 5, 182, 0, 130, 177]
abbrev dktX48_feed_2 : List UInt8 := dkwX48_feed_2 ++ []
def dkwX48_feed_1 : List UInt8 := [180, 0, 124, 154, 0, 30, 42, 27, 182, 0, 130, 42, 28, 182, 0, 130, 42, 29, 182, 0, 130, 42, 21, 4]
abbrev dktX48_feed_1 : List UInt8 := dkwX48_feed_1 ++ dktX48_feed_2
def dkwX48_feed_0 : List UInt8 := [42, 42, 180, 0, 127, 16, 20, 96, 17, 31, 64, 164, 0, 7, 4, 167, 0, 4, 3, 181, 0, 124, 42]
abbrev dktX48_feed_0 : List UInt8 := dkwX48_feed_0 ++ dktX48_feed_1
theorem dksX48_feed_0 : cX48_feed.data.toList.drop 0 = dktX48_feed_0 := by decide +kernel
theorem dksX48_feed_1 : cX48_feed.data.toList.drop 23 = dktX48_feed_1 := dk_seg dksX48_feed_0 23 rfl rfl
theorem dksX48_feed_2 : cX48_feed.data.toList.drop 47 = dktX48_feed_2 := dk_seg dksX48_feed_1 24 rfl rfl
theorem dX48_feed_0 : decode cX48_feed 0 = .ok (.aload_n 0, 1) := dk_42 (dk_at dksX48_feed_0 0 rfl rfl)
theorem dX48_feed_1 : decode cX48_feed 1 = .ok (.aload_n 0, 1) := dk_42 (dk_at dksX48_feed_0 1 rfl rfl)
theorem dX48_feed_2 : decode cX48_feed 2 = .ok (.getfield 127, 3) := dk_180 0 127 (dk_at dksX48_feed_0 2 rfl rfl)
theorem dX48_feed_5 : decode cX48_feed 5 = .ok (.bipush 20, 2) := dk_16 20 (dk_at dksX48_feed_0 5 rfl rfl)
theorem dX48_feed_7 : decode cX48_feed 7 = .ok (.iadd, 1) := dk_96 (dk_at dksX48_feed_0 7 rfl rfl)
theorem dX48_feed_8 : decode cX48_feed 8 = .ok (.sipush 8000, 3) := dk_17 31 64 (dk_at dksX48_feed_0 8 rfl rfl)
theorem dX48_feed_11 : decode cX48_feed 11 = .ok (.if_icmp .le 7, 3) := dk_164 0 7 (dk_at dksX48_feed_0 11 rfl rfl)
theorem dX48_feed_14 : decode cX48_feed 14 = .ok (.iconst 1, 1) := dk_4 (dk_at dksX48_feed_0 14 rfl rfl)
theorem dX48_feed_15 : decode cX48_feed 15 = .ok (.goto 4, 3) := dk_167 0 4 (dk_at dksX48_feed_0 15 rfl rfl)
theorem dX48_feed_18 : decode cX48_feed 18 = .ok (.iconst 0, 1) := dk_3 (dk_at dksX48_feed_0 18 rfl rfl)
theorem dX48_feed_19 : decode cX48_feed 19 = .ok (.putfield 124, 3) := dk_181 0 124 (dk_at dksX48_feed_0 19 rfl rfl)
theorem dX48_feed_22 : decode cX48_feed 22 = .ok (.aload_n 0, 1) := dk_42 (dk_at dksX48_feed_0 22 rfl rfl)
theorem dX48_feed_23 : decode cX48_feed 23 = .ok (.getfield 124, 3) := dk_180 0 124 (dk_at dksX48_feed_1 0 rfl rfl)
theorem dX48_feed_26 : decode cX48_feed 26 = .ok (.ifCond .ne 30, 3) := dk_154 0 30 (dk_at dksX48_feed_1 3 rfl rfl)
theorem dX48_feed_29 : decode cX48_feed 29 = .ok (.aload_n 0, 1) := dk_42 (dk_at dksX48_feed_1 6 rfl rfl)
theorem dX48_feed_30 : decode cX48_feed 30 = .ok (.iload_n 1, 1) := dk_27 (dk_at dksX48_feed_1 7 rfl rfl)
theorem dX48_feed_31 : decode cX48_feed 31 = .ok (.invokevirtual 130, 3) := dk_182 0 130 (dk_at dksX48_feed_1 8 rfl rfl)
theorem dX48_feed_34 : decode cX48_feed 34 = .ok (.aload_n 0, 1) := dk_42 (dk_at dksX48_feed_1 11 rfl rfl)
theorem dX48_feed_35 : decode cX48_feed 35 = .ok (.iload_n 2, 1) := dk_28 (dk_at dksX48_feed_1 12 rfl rfl)
theorem dX48_feed_36 : decode cX48_feed 36 = .ok (.invokevirtual 130, 3) := dk_182 0 130 (dk_at dksX48_feed_1 13 rfl rfl)
theorem dX48_feed_39 : decode cX48_feed 39 = .ok (.aload_n 0, 1) := dk_42 (dk_at dksX48_feed_1 16 rfl rfl)
theorem dX48_feed_40 : decode cX48_feed 40 = .ok (.iload_n 3, 1) := dk_29 (dk_at dksX48_feed_1 17 rfl rfl)
theorem dX48_feed_41 : decode cX48_feed 41 = .ok (.invokevirtual 130, 3) := dk_182 0 130 (dk_at dksX48_feed_1 18 rfl rfl)
theorem dX48_feed_44 : decode cX48_feed 44 = .ok (.aload_n 0, 1) := dk_42 (dk_at dksX48_feed_1 21 rfl rfl)
theorem dX48_feed_45 : decode cX48_feed 45 = .ok (.iload 4, 2) := dk_21 4 (dk_at dksX48_feed_1 22 rfl rfl)
theorem dX48_feed_47 : decode cX48_feed 47 = .ok (.invokevirtual 130, 3) := dk_182 0 130 (dk_at dksX48_feed_2 0 rfl rfl)
theorem dX48_feed_50 : decode cX48_feed 50 = .ok (.aload_n 0, 1) := dk_42 (dk_at dksX48_feed_2 3 rfl rfl)
theorem dX48_feed_51 : decode cX48_feed 51 = .ok (.iload 5, 2) := dk_21 5 (dk_at dksX48_feed_2 4 rfl rfl)
theorem dX48_feed_53 : decode cX48_feed 53 = .ok (.invokevirtual 130, 3) := dk_182 0 130 (dk_at dksX48_feed_2 6 rfl rfl)
theorem dX48_feed_56 : decode cX48_feed 56 = .ok (.return_, 1) := dk_177 (dk_at dksX48_feed_2 9 rfl rfl)
abbrev cX48_take : ByteArray := prog_56_method_3_code
def yX48_take : MethodName := ⟨RX48, "take", "(I)V"⟩
def dkwX48_take_1 : List UInt8 := [180, 0, 127, 4, 96, 181, 0, 127, 132, 2, 248, 167, 255, 226, 177]
abbrev dktX48_take_1 : List UInt8 := dkwX48_take_1 ++ []
def dkwX48_take_0 : List UInt8 := [16, 24, 61, 28, 155, 0, 32, 42, 180, 0, 76, 42, 180, 0, 127, 27, 28, 122, 145, 84, 42, 89]
abbrev dktX48_take_0 : List UInt8 := dkwX48_take_0 ++ dktX48_take_1
theorem dksX48_take_0 : cX48_take.data.toList.drop 0 = dktX48_take_0 := by decide +kernel
theorem dksX48_take_1 : cX48_take.data.toList.drop 22 = dktX48_take_1 := dk_seg dksX48_take_0 22 rfl rfl
theorem dX48_take_0 : decode cX48_take 0 = .ok (.bipush 24, 2) := dk_16 24 (dk_at dksX48_take_0 0 rfl rfl)
theorem dX48_take_2 : decode cX48_take 2 = .ok (.istore_n 2, 1) := dk_61 (dk_at dksX48_take_0 2 rfl rfl)
theorem dX48_take_3 : decode cX48_take 3 = .ok (.iload_n 2, 1) := dk_28 (dk_at dksX48_take_0 3 rfl rfl)
theorem dX48_take_4 : decode cX48_take 4 = .ok (.ifCond .lt 32, 3) := dk_155 0 32 (dk_at dksX48_take_0 4 rfl rfl)
theorem dX48_take_7 : decode cX48_take 7 = .ok (.aload_n 0, 1) := dk_42 (dk_at dksX48_take_0 7 rfl rfl)
theorem dX48_take_8 : decode cX48_take 8 = .ok (.getfield 76, 3) := dk_180 0 76 (dk_at dksX48_take_0 8 rfl rfl)
theorem dX48_take_11 : decode cX48_take 11 = .ok (.aload_n 0, 1) := dk_42 (dk_at dksX48_take_0 11 rfl rfl)
theorem dX48_take_12 : decode cX48_take 12 = .ok (.getfield 127, 3) := dk_180 0 127 (dk_at dksX48_take_0 12 rfl rfl)
theorem dX48_take_15 : decode cX48_take 15 = .ok (.iload_n 1, 1) := dk_27 (dk_at dksX48_take_0 15 rfl rfl)
theorem dX48_take_16 : decode cX48_take 16 = .ok (.iload_n 2, 1) := dk_28 (dk_at dksX48_take_0 16 rfl rfl)
theorem dX48_take_17 : decode cX48_take 17 = .ok (.ishr, 1) := dk_122 (dk_at dksX48_take_0 17 rfl rfl)
theorem dX48_take_18 : decode cX48_take 18 = .ok (.i2b, 1) := dk_145 (dk_at dksX48_take_0 18 rfl rfl)
theorem dX48_take_19 : decode cX48_take 19 = .ok (.bastore, 1) := dk_84 (dk_at dksX48_take_0 19 rfl rfl)
theorem dX48_take_20 : decode cX48_take 20 = .ok (.aload_n 0, 1) := dk_42 (dk_at dksX48_take_0 20 rfl rfl)
theorem dX48_take_21 : decode cX48_take 21 = .ok (.dup, 1) := dk_89 (dk_at dksX48_take_0 21 rfl rfl)
theorem dX48_take_22 : decode cX48_take 22 = .ok (.getfield 127, 3) := dk_180 0 127 (dk_at dksX48_take_1 0 rfl rfl)
theorem dX48_take_25 : decode cX48_take 25 = .ok (.iconst 1, 1) := dk_4 (dk_at dksX48_take_1 3 rfl rfl)
theorem dX48_take_26 : decode cX48_take 26 = .ok (.iadd, 1) := dk_96 (dk_at dksX48_take_1 4 rfl rfl)
theorem dX48_take_27 : decode cX48_take 27 = .ok (.putfield 127, 3) := dk_181 0 127 (dk_at dksX48_take_1 5 rfl rfl)
theorem dX48_take_30 : decode cX48_take 30 = .ok (.iinc 2 (-8), 3) := dk_132 2 248 (dk_at dksX48_take_1 8 rfl rfl)
theorem dX48_take_33 : decode cX48_take 33 = .ok (.goto (-30), 3) := dk_167 255 226 (dk_at dksX48_take_1 11 rfl rfl)
theorem dX48_take_36 : decode cX48_take 36 = .ok (.return_, 1) := dk_177 (dk_at dksX48_take_1 14 rfl rfl)
abbrev cX48_end : ByteArray := prog_56_method_5_code
def yX48_end : MethodName := ⟨RX48, "end", "(I)I"⟩
def dkwX48_end_1 : List UInt8 := [180, 0, 124, 158, 0, 5, 3, 172, 42, 180, 0, 127, 61, 42, 27, 181, 0, 127, 28, 172]
abbrev dktX48_end_1 : List UInt8 := dkwX48_end_1 ++ []
def dkwX48_end_0 : List UInt8 := [42, 27, 155, 0, 11, 27, 42, 180, 0, 127, 164, 0, 7, 4, 167, 0, 4, 3, 181, 0, 124, 42]
abbrev dktX48_end_0 : List UInt8 := dkwX48_end_0 ++ dktX48_end_1
theorem dksX48_end_0 : cX48_end.data.toList.drop 0 = dktX48_end_0 := by decide +kernel
theorem dksX48_end_1 : cX48_end.data.toList.drop 22 = dktX48_end_1 := dk_seg dksX48_end_0 22 rfl rfl
theorem dX48_end_0 : decode cX48_end 0 = .ok (.aload_n 0, 1) := dk_42 (dk_at dksX48_end_0 0 rfl rfl)
theorem dX48_end_1 : decode cX48_end 1 = .ok (.iload_n 1, 1) := dk_27 (dk_at dksX48_end_0 1 rfl rfl)
theorem dX48_end_2 : decode cX48_end 2 = .ok (.ifCond .lt 11, 3) := dk_155 0 11 (dk_at dksX48_end_0 2 rfl rfl)
theorem dX48_end_5 : decode cX48_end 5 = .ok (.iload_n 1, 1) := dk_27 (dk_at dksX48_end_0 5 rfl rfl)
theorem dX48_end_6 : decode cX48_end 6 = .ok (.aload_n 0, 1) := dk_42 (dk_at dksX48_end_0 6 rfl rfl)
theorem dX48_end_7 : decode cX48_end 7 = .ok (.getfield 127, 3) := dk_180 0 127 (dk_at dksX48_end_0 7 rfl rfl)
theorem dX48_end_10 : decode cX48_end 10 = .ok (.if_icmp .le 7, 3) := dk_164 0 7 (dk_at dksX48_end_0 10 rfl rfl)
theorem dX48_end_13 : decode cX48_end 13 = .ok (.iconst 1, 1) := dk_4 (dk_at dksX48_end_0 13 rfl rfl)
theorem dX48_end_14 : decode cX48_end 14 = .ok (.goto 4, 3) := dk_167 0 4 (dk_at dksX48_end_0 14 rfl rfl)
theorem dX48_end_17 : decode cX48_end 17 = .ok (.iconst 0, 1) := dk_3 (dk_at dksX48_end_0 17 rfl rfl)
theorem dX48_end_18 : decode cX48_end 18 = .ok (.putfield 124, 3) := dk_181 0 124 (dk_at dksX48_end_0 18 rfl rfl)
theorem dX48_end_21 : decode cX48_end 21 = .ok (.aload_n 0, 1) := dk_42 (dk_at dksX48_end_0 21 rfl rfl)
theorem dX48_end_22 : decode cX48_end 22 = .ok (.getfield 124, 3) := dk_180 0 124 (dk_at dksX48_end_1 0 rfl rfl)
theorem dX48_end_25 : decode cX48_end 25 = .ok (.ifCond .le 5, 3) := dk_158 0 5 (dk_at dksX48_end_1 3 rfl rfl)
theorem dX48_end_28 : decode cX48_end 28 = .ok (.iconst 0, 1) := dk_3 (dk_at dksX48_end_1 6 rfl rfl)
theorem dX48_end_29 : decode cX48_end 29 = .ok (.ireturn, 1) := dk_172 (dk_at dksX48_end_1 7 rfl rfl)
theorem dX48_end_30 : decode cX48_end 30 = .ok (.aload_n 0, 1) := dk_42 (dk_at dksX48_end_1 8 rfl rfl)
theorem dX48_end_31 : decode cX48_end 31 = .ok (.getfield 127, 3) := dk_180 0 127 (dk_at dksX48_end_1 9 rfl rfl)
theorem dX48_end_34 : decode cX48_end 34 = .ok (.istore_n 2, 1) := dk_61 (dk_at dksX48_end_1 12 rfl rfl)
theorem dX48_end_35 : decode cX48_end 35 = .ok (.aload_n 0, 1) := dk_42 (dk_at dksX48_end_1 13 rfl rfl)
theorem dX48_end_36 : decode cX48_end 36 = .ok (.iload_n 1, 1) := dk_27 (dk_at dksX48_end_1 14 rfl rfl)
theorem dX48_end_37 : decode cX48_end 37 = .ok (.putfield 127, 3) := dk_181 0 127 (dk_at dksX48_end_1 15 rfl rfl)
theorem dX48_end_40 : decode cX48_end 40 = .ok (.iload_n 2, 1) := dk_28 (dk_at dksX48_end_1 18 rfl rfl)
theorem dX48_end_41 : decode cX48_end 41 = .ok (.ireturn, 1) := dk_172 (dk_at dksX48_end_1 19 rfl rfl)
abbrev cX48_run : ByteArray := prog_56_method_15_code
def yX48_run : MethodName := ⟨RX48, "run", "()I"⟩
def dkwX48_run_7 : List UInt8 := [180, 0, 157, 4, 96, 181, 0, 157, 132, 2, 1, 21, 4, 4, 96, 62, 167, 255, 115, 42, 180, 0, 157, 172]
abbrev dktX48_run_7 : List UInt8 := dkwX48_run_7 ++ []
def dkwX48_run_6 : List UInt8 := [42, 180, 0, 157, 42, 180, 0, 182, 153, 0, 9, 20, 0, 234, 167, 0, 5, 22, 5, 80, 42, 89]
abbrev dktX48_run_6 : List UInt8 := dkwX48_run_6 ++ dktX48_run_7
def dkwX48_run_5 : List UInt8 := [16, 120, 182, 0, 177, 167, 0, 9, 42, 22, 5, 182, 0, 231, 42, 16, 10, 182, 0, 177, 42, 180, 0, 84]
abbrev dktX48_run_5 : List UInt8 := dkwX48_run_5 ++ dktX48_run_6
def dkwX48_run_4 : List UInt8 := [155, 0, 15, 42, 42, 180, 0, 167, 181, 0, 88, 2, 28, 100, 172, 42, 180, 0, 182, 153, 0, 12, 42]
abbrev dktX48_run_4 : List UInt8 := dkwX48_run_4 ++ dktX48_run_5
def dkwX48_run_3 : List UInt8 := [21, 4, 182, 0, 224, 42, 180, 0, 133, 158, 0, 90, 42, 182, 0, 228, 55, 5, 42, 180, 0, 167]
abbrev dktX48_run_3 : List UInt8 := dkwX48_run_3 ++ dktX48_run_4
def dkwX48_run_2 : List UInt8 := [162, 0, 21, 42, 180, 0, 76, 21, 4, 51, 16, 10, 159, 0, 9, 132, 4, 1, 167, 255, 235, 42, 29]
abbrev dktX48_run_2 : List UInt8 := dkwX48_run_2 ++ dktX48_run_3
def dkwX48_run_1 : List UInt8 := [181, 0, 157, 42, 2, 181, 0, 88, 3, 61, 3, 62, 29, 27, 162, 0, 142, 29, 54, 4, 21, 4, 27]
abbrev dktX48_run_1 : List UInt8 := dkwX48_run_1 ++ dktX48_run_2
def dkwX48_run_0 : List UInt8 := [42, 3, 181, 0, 124, 42, 180, 0, 127, 60, 42, 3, 181, 0, 127, 42, 3, 181, 0, 174, 42, 3]
abbrev dktX48_run_0 : List UInt8 := dkwX48_run_0 ++ dktX48_run_1
theorem dksX48_run_0 : cX48_run.data.toList.drop 0 = dktX48_run_0 := by decide +kernel
theorem dksX48_run_1 : cX48_run.data.toList.drop 22 = dktX48_run_1 := dk_seg dksX48_run_0 22 rfl rfl
theorem dksX48_run_2 : cX48_run.data.toList.drop 45 = dktX48_run_2 := dk_seg dksX48_run_1 23 rfl rfl
theorem dksX48_run_3 : cX48_run.data.toList.drop 68 = dktX48_run_3 := dk_seg dksX48_run_2 23 rfl rfl
theorem dksX48_run_4 : cX48_run.data.toList.drop 90 = dktX48_run_4 := dk_seg dksX48_run_3 22 rfl rfl
theorem dksX48_run_5 : cX48_run.data.toList.drop 113 = dktX48_run_5 := dk_seg dksX48_run_4 23 rfl rfl
theorem dksX48_run_6 : cX48_run.data.toList.drop 137 = dktX48_run_6 := dk_seg dksX48_run_5 24 rfl rfl
theorem dksX48_run_7 : cX48_run.data.toList.drop 159 = dktX48_run_7 := dk_seg dksX48_run_6 22 rfl rfl
theorem dX48_run_0 : decode cX48_run 0 = .ok (.aload_n 0, 1) := dk_42 (dk_at dksX48_run_0 0 rfl rfl)
theorem dX48_run_1 : decode cX48_run 1 = .ok (.iconst 0, 1) := dk_3 (dk_at dksX48_run_0 1 rfl rfl)
theorem dX48_run_2 : decode cX48_run 2 = .ok (.putfield 124, 3) := dk_181 0 124 (dk_at dksX48_run_0 2 rfl rfl)
theorem dX48_run_5 : decode cX48_run 5 = .ok (.aload_n 0, 1) := dk_42 (dk_at dksX48_run_0 5 rfl rfl)
theorem dX48_run_6 : decode cX48_run 6 = .ok (.getfield 127, 3) := dk_180 0 127 (dk_at dksX48_run_0 6 rfl rfl)
theorem dX48_run_9 : decode cX48_run 9 = .ok (.istore_n 1, 1) := dk_60 (dk_at dksX48_run_0 9 rfl rfl)
theorem dX48_run_10 : decode cX48_run 10 = .ok (.aload_n 0, 1) := dk_42 (dk_at dksX48_run_0 10 rfl rfl)
theorem dX48_run_11 : decode cX48_run 11 = .ok (.iconst 0, 1) := dk_3 (dk_at dksX48_run_0 11 rfl rfl)
theorem dX48_run_12 : decode cX48_run 12 = .ok (.putfield 127, 3) := dk_181 0 127 (dk_at dksX48_run_0 12 rfl rfl)
theorem dX48_run_15 : decode cX48_run 15 = .ok (.aload_n 0, 1) := dk_42 (dk_at dksX48_run_0 15 rfl rfl)
theorem dX48_run_16 : decode cX48_run 16 = .ok (.iconst 0, 1) := dk_3 (dk_at dksX48_run_0 16 rfl rfl)
theorem dX48_run_17 : decode cX48_run 17 = .ok (.putfield 174, 3) := dk_181 0 174 (dk_at dksX48_run_0 17 rfl rfl)
theorem dX48_run_20 : decode cX48_run 20 = .ok (.aload_n 0, 1) := dk_42 (dk_at dksX48_run_0 20 rfl rfl)
theorem dX48_run_21 : decode cX48_run 21 = .ok (.iconst 0, 1) := dk_3 (dk_at dksX48_run_0 21 rfl rfl)
theorem dX48_run_22 : decode cX48_run 22 = .ok (.putfield 157, 3) := dk_181 0 157 (dk_at dksX48_run_1 0 rfl rfl)
theorem dX48_run_25 : decode cX48_run 25 = .ok (.aload_n 0, 1) := dk_42 (dk_at dksX48_run_1 3 rfl rfl)
theorem dX48_run_26 : decode cX48_run 26 = .ok (.iconst (-1), 1) := dk_2 (dk_at dksX48_run_1 4 rfl rfl)
theorem dX48_run_27 : decode cX48_run 27 = .ok (.putfield 88, 3) := dk_181 0 88 (dk_at dksX48_run_1 5 rfl rfl)
theorem dX48_run_30 : decode cX48_run 30 = .ok (.iconst 0, 1) := dk_3 (dk_at dksX48_run_1 8 rfl rfl)
theorem dX48_run_31 : decode cX48_run 31 = .ok (.istore_n 2, 1) := dk_61 (dk_at dksX48_run_1 9 rfl rfl)
theorem dX48_run_32 : decode cX48_run 32 = .ok (.iconst 0, 1) := dk_3 (dk_at dksX48_run_1 10 rfl rfl)
theorem dX48_run_33 : decode cX48_run 33 = .ok (.istore_n 3, 1) := dk_62 (dk_at dksX48_run_1 11 rfl rfl)
theorem dX48_run_34 : decode cX48_run 34 = .ok (.iload_n 3, 1) := dk_29 (dk_at dksX48_run_1 12 rfl rfl)
theorem dX48_run_35 : decode cX48_run 35 = .ok (.iload_n 1, 1) := dk_27 (dk_at dksX48_run_1 13 rfl rfl)
theorem dX48_run_36 : decode cX48_run 36 = .ok (.if_icmp .ge 142, 3) := dk_162 0 142 (dk_at dksX48_run_1 14 rfl rfl)
theorem dX48_run_39 : decode cX48_run 39 = .ok (.iload_n 3, 1) := dk_29 (dk_at dksX48_run_1 17 rfl rfl)
theorem dX48_run_40 : decode cX48_run 40 = .ok (.istore 4, 2) := dk_54 4 (dk_at dksX48_run_1 18 rfl rfl)
theorem dX48_run_42 : decode cX48_run 42 = .ok (.iload 4, 2) := dk_21 4 (dk_at dksX48_run_1 20 rfl rfl)
theorem dX48_run_44 : decode cX48_run 44 = .ok (.iload_n 1, 1) := dk_27 (dk_at dksX48_run_1 22 rfl rfl)
theorem dX48_run_45 : decode cX48_run 45 = .ok (.if_icmp .ge 21, 3) := dk_162 0 21 (dk_at dksX48_run_2 0 rfl rfl)
theorem dX48_run_48 : decode cX48_run 48 = .ok (.aload_n 0, 1) := dk_42 (dk_at dksX48_run_2 3 rfl rfl)
theorem dX48_run_49 : decode cX48_run 49 = .ok (.getfield 76, 3) := dk_180 0 76 (dk_at dksX48_run_2 4 rfl rfl)
theorem dX48_run_52 : decode cX48_run 52 = .ok (.iload 4, 2) := dk_21 4 (dk_at dksX48_run_2 7 rfl rfl)
theorem dX48_run_54 : decode cX48_run 54 = .ok (.baload, 1) := dk_51 (dk_at dksX48_run_2 9 rfl rfl)
theorem dX48_run_55 : decode cX48_run 55 = .ok (.bipush 10, 2) := dk_16 10 (dk_at dksX48_run_2 10 rfl rfl)
theorem dX48_run_57 : decode cX48_run 57 = .ok (.if_icmp .eq 9, 3) := dk_159 0 9 (dk_at dksX48_run_2 12 rfl rfl)
theorem dX48_run_60 : decode cX48_run 60 = .ok (.iinc 4 1, 3) := dk_132 4 1 (dk_at dksX48_run_2 15 rfl rfl)
theorem dX48_run_63 : decode cX48_run 63 = .ok (.goto (-21), 3) := dk_167 255 235 (dk_at dksX48_run_2 18 rfl rfl)
theorem dX48_run_66 : decode cX48_run 66 = .ok (.aload_n 0, 1) := dk_42 (dk_at dksX48_run_2 21 rfl rfl)
theorem dX48_run_67 : decode cX48_run 67 = .ok (.iload_n 3, 1) := dk_29 (dk_at dksX48_run_2 22 rfl rfl)
theorem dX48_run_68 : decode cX48_run 68 = .ok (.iload 4, 2) := dk_21 4 (dk_at dksX48_run_3 0 rfl rfl)
theorem dX48_run_70 : decode cX48_run 70 = .ok (.invokevirtual 224, 3) := dk_182 0 224 (dk_at dksX48_run_3 2 rfl rfl)
theorem dX48_run_73 : decode cX48_run 73 = .ok (.aload_n 0, 1) := dk_42 (dk_at dksX48_run_3 5 rfl rfl)
theorem dX48_run_74 : decode cX48_run 74 = .ok (.getfield 133, 3) := dk_180 0 133 (dk_at dksX48_run_3 6 rfl rfl)
theorem dX48_run_77 : decode cX48_run 77 = .ok (.ifCond .le 90, 3) := dk_158 0 90 (dk_at dksX48_run_3 9 rfl rfl)
theorem dX48_run_80 : decode cX48_run 80 = .ok (.aload_n 0, 1) := dk_42 (dk_at dksX48_run_3 12 rfl rfl)
theorem dX48_run_81 : decode cX48_run 81 = .ok (.invokevirtual 228, 3) := dk_182 0 228 (dk_at dksX48_run_3 13 rfl rfl)
theorem dX48_run_84 : decode cX48_run 84 = .ok (.lstore 5, 2) := dk_55 5 (dk_at dksX48_run_3 16 rfl rfl)
theorem dX48_run_86 : decode cX48_run 86 = .ok (.aload_n 0, 1) := dk_42 (dk_at dksX48_run_3 18 rfl rfl)
theorem dX48_run_87 : decode cX48_run 87 = .ok (.getfield 167, 3) := dk_180 0 167 (dk_at dksX48_run_3 19 rfl rfl)
theorem dX48_run_90 : decode cX48_run 90 = .ok (.ifCond .lt 15, 3) := dk_155 0 15 (dk_at dksX48_run_4 0 rfl rfl)
theorem dX48_run_93 : decode cX48_run 93 = .ok (.aload_n 0, 1) := dk_42 (dk_at dksX48_run_4 3 rfl rfl)
theorem dX48_run_94 : decode cX48_run 94 = .ok (.aload_n 0, 1) := dk_42 (dk_at dksX48_run_4 4 rfl rfl)
theorem dX48_run_95 : decode cX48_run 95 = .ok (.getfield 167, 3) := dk_180 0 167 (dk_at dksX48_run_4 5 rfl rfl)
theorem dX48_run_98 : decode cX48_run 98 = .ok (.putfield 88, 3) := dk_181 0 88 (dk_at dksX48_run_4 8 rfl rfl)
theorem dX48_run_101 : decode cX48_run 101 = .ok (.iconst (-1), 1) := dk_2 (dk_at dksX48_run_4 11 rfl rfl)
theorem dX48_run_102 : decode cX48_run 102 = .ok (.iload_n 2, 1) := dk_28 (dk_at dksX48_run_4 12 rfl rfl)
theorem dX48_run_103 : decode cX48_run 103 = .ok (.isub, 1) := dk_100 (dk_at dksX48_run_4 13 rfl rfl)
theorem dX48_run_104 : decode cX48_run 104 = .ok (.ireturn, 1) := dk_172 (dk_at dksX48_run_4 14 rfl rfl)
theorem dX48_run_105 : decode cX48_run 105 = .ok (.aload_n 0, 1) := dk_42 (dk_at dksX48_run_4 15 rfl rfl)
theorem dX48_run_106 : decode cX48_run 106 = .ok (.getfield 182, 3) := dk_180 0 182 (dk_at dksX48_run_4 16 rfl rfl)
theorem dX48_run_109 : decode cX48_run 109 = .ok (.ifCond .eq 12, 3) := dk_153 0 12 (dk_at dksX48_run_4 19 rfl rfl)
theorem dX48_run_112 : decode cX48_run 112 = .ok (.aload_n 0, 1) := dk_42 (dk_at dksX48_run_4 22 rfl rfl)
theorem dX48_run_113 : decode cX48_run 113 = .ok (.bipush 120, 2) := dk_16 120 (dk_at dksX48_run_5 0 rfl rfl)
theorem dX48_run_115 : decode cX48_run 115 = .ok (.invokevirtual 177, 3) := dk_182 0 177 (dk_at dksX48_run_5 2 rfl rfl)
theorem dX48_run_118 : decode cX48_run 118 = .ok (.goto 9, 3) := dk_167 0 9 (dk_at dksX48_run_5 5 rfl rfl)
theorem dX48_run_121 : decode cX48_run 121 = .ok (.aload_n 0, 1) := dk_42 (dk_at dksX48_run_5 8 rfl rfl)
theorem dX48_run_122 : decode cX48_run 122 = .ok (.lload 5, 2) := dk_22 5 (dk_at dksX48_run_5 9 rfl rfl)
theorem dX48_run_124 : decode cX48_run 124 = .ok (.invokevirtual 231, 3) := dk_182 0 231 (dk_at dksX48_run_5 11 rfl rfl)
theorem dX48_run_127 : decode cX48_run 127 = .ok (.aload_n 0, 1) := dk_42 (dk_at dksX48_run_5 14 rfl rfl)
theorem dX48_run_128 : decode cX48_run 128 = .ok (.bipush 10, 2) := dk_16 10 (dk_at dksX48_run_5 15 rfl rfl)
theorem dX48_run_130 : decode cX48_run 130 = .ok (.invokevirtual 177, 3) := dk_182 0 177 (dk_at dksX48_run_5 17 rfl rfl)
theorem dX48_run_133 : decode cX48_run 133 = .ok (.aload_n 0, 1) := dk_42 (dk_at dksX48_run_5 20 rfl rfl)
theorem dX48_run_134 : decode cX48_run 134 = .ok (.getfield 84, 3) := dk_180 0 84 (dk_at dksX48_run_5 21 rfl rfl)
theorem dX48_run_137 : decode cX48_run 137 = .ok (.aload_n 0, 1) := dk_42 (dk_at dksX48_run_6 0 rfl rfl)
theorem dX48_run_138 : decode cX48_run 138 = .ok (.getfield 157, 3) := dk_180 0 157 (dk_at dksX48_run_6 1 rfl rfl)
theorem dX48_run_141 : decode cX48_run 141 = .ok (.aload_n 0, 1) := dk_42 (dk_at dksX48_run_6 4 rfl rfl)
theorem dX48_run_142 : decode cX48_run 142 = .ok (.getfield 182, 3) := dk_180 0 182 (dk_at dksX48_run_6 5 rfl rfl)
theorem dX48_run_145 : decode cX48_run 145 = .ok (.ifCond .eq 9, 3) := dk_153 0 9 (dk_at dksX48_run_6 8 rfl rfl)
theorem dX48_run_148 : decode cX48_run 148 = .ok (.ldc2_w 234, 3) := dk_20 0 234 (dk_at dksX48_run_6 11 rfl rfl)
theorem dX48_run_151 : decode cX48_run 151 = .ok (.goto 5, 3) := dk_167 0 5 (dk_at dksX48_run_6 14 rfl rfl)
theorem dX48_run_154 : decode cX48_run 154 = .ok (.lload 5, 2) := dk_22 5 (dk_at dksX48_run_6 17 rfl rfl)
theorem dX48_run_156 : decode cX48_run 156 = .ok (.lastore, 1) := dk_80 (dk_at dksX48_run_6 19 rfl rfl)
theorem dX48_run_157 : decode cX48_run 157 = .ok (.aload_n 0, 1) := dk_42 (dk_at dksX48_run_6 20 rfl rfl)
theorem dX48_run_158 : decode cX48_run 158 = .ok (.dup, 1) := dk_89 (dk_at dksX48_run_6 21 rfl rfl)
theorem dX48_run_159 : decode cX48_run 159 = .ok (.getfield 157, 3) := dk_180 0 157 (dk_at dksX48_run_7 0 rfl rfl)
theorem dX48_run_162 : decode cX48_run 162 = .ok (.iconst 1, 1) := dk_4 (dk_at dksX48_run_7 3 rfl rfl)
theorem dX48_run_163 : decode cX48_run 163 = .ok (.iadd, 1) := dk_96 (dk_at dksX48_run_7 4 rfl rfl)
theorem dX48_run_164 : decode cX48_run 164 = .ok (.putfield 157, 3) := dk_181 0 157 (dk_at dksX48_run_7 5 rfl rfl)
theorem dX48_run_167 : decode cX48_run 167 = .ok (.iinc 2 1, 3) := dk_132 2 1 (dk_at dksX48_run_7 8 rfl rfl)
theorem dX48_run_170 : decode cX48_run 170 = .ok (.iload 4, 2) := dk_21 4 (dk_at dksX48_run_7 11 rfl rfl)
theorem dX48_run_172 : decode cX48_run 172 = .ok (.iconst 1, 1) := dk_4 (dk_at dksX48_run_7 13 rfl rfl)
theorem dX48_run_173 : decode cX48_run 173 = .ok (.iadd, 1) := dk_96 (dk_at dksX48_run_7 14 rfl rfl)
theorem dX48_run_174 : decode cX48_run 174 = .ok (.istore_n 3, 1) := dk_62 (dk_at dksX48_run_7 15 rfl rfl)
theorem dX48_run_175 : decode cX48_run 175 = .ok (.goto (-141), 3) := dk_167 255 115 (dk_at dksX48_run_7 16 rfl rfl)
theorem dX48_run_178 : decode cX48_run 178 = .ok (.aload_n 0, 1) := dk_42 (dk_at dksX48_run_7 19 rfl rfl)
theorem dX48_run_179 : decode cX48_run 179 = .ok (.getfield 157, 3) := dk_180 0 157 (dk_at dksX48_run_7 20 rfl rfl)
theorem dX48_run_182 : decode cX48_run 182 = .ok (.ireturn, 1) := dk_172 (dk_at dksX48_run_7 23 rfl rfl)
abbrev cX48_split : ByteArray := prog_56_method_6_code
def yX48_split : MethodName := ⟨RX48, "split", "(II)V"⟩
def dkwX48_split_3 : List UInt8 := [42, 89, 180, 0, 133, 4, 96, 181, 0, 133, 21, 4, 4, 96, 62, 167, 255, 182, 177]
abbrev dktX48_split_3 : List UInt8 := dkwX48_split_3 ++ []
def dkwX48_split_2 : List UInt8 := [164, 0, 34, 42, 180, 0, 92, 42, 180, 0, 133, 29, 79, 42, 180, 0, 96, 42, 180, 0, 133, 21, 4, 79]
abbrev dktX48_split_2 : List UInt8 := dkwX48_split_2 ++ dktX48_split_3
def dkwX48_split_1 : List UInt8 := [162, 0, 21, 42, 180, 0, 76, 21, 4, 51, 16, 32, 159, 0, 9, 132, 4, 1, 167, 255, 235, 21, 4, 29]
abbrev dktX48_split_1 : List UInt8 := dkwX48_split_1 ++ dktX48_split_2
def dkwX48_split_0 : List UInt8 := [42, 3, 181, 0, 133, 42, 28, 181, 0, 136, 27, 62, 29, 28, 162, 0, 75, 29, 54, 4, 21, 4, 28]
abbrev dktX48_split_0 : List UInt8 := dkwX48_split_0 ++ dktX48_split_1
theorem dksX48_split_0 : cX48_split.data.toList.drop 0 = dktX48_split_0 := by decide +kernel
theorem dksX48_split_1 : cX48_split.data.toList.drop 23 = dktX48_split_1 := dk_seg dksX48_split_0 23 rfl rfl
theorem dksX48_split_2 : cX48_split.data.toList.drop 47 = dktX48_split_2 := dk_seg dksX48_split_1 24 rfl rfl
theorem dksX48_split_3 : cX48_split.data.toList.drop 71 = dktX48_split_3 := dk_seg dksX48_split_2 24 rfl rfl
theorem dX48_split_0 : decode cX48_split 0 = .ok (.aload_n 0, 1) := dk_42 (dk_at dksX48_split_0 0 rfl rfl)
theorem dX48_split_1 : decode cX48_split 1 = .ok (.iconst 0, 1) := dk_3 (dk_at dksX48_split_0 1 rfl rfl)
theorem dX48_split_2 : decode cX48_split 2 = .ok (.putfield 133, 3) := dk_181 0 133 (dk_at dksX48_split_0 2 rfl rfl)
theorem dX48_split_5 : decode cX48_split 5 = .ok (.aload_n 0, 1) := dk_42 (dk_at dksX48_split_0 5 rfl rfl)
theorem dX48_split_6 : decode cX48_split 6 = .ok (.iload_n 2, 1) := dk_28 (dk_at dksX48_split_0 6 rfl rfl)
theorem dX48_split_7 : decode cX48_split 7 = .ok (.putfield 136, 3) := dk_181 0 136 (dk_at dksX48_split_0 7 rfl rfl)
theorem dX48_split_10 : decode cX48_split 10 = .ok (.iload_n 1, 1) := dk_27 (dk_at dksX48_split_0 10 rfl rfl)
theorem dX48_split_11 : decode cX48_split 11 = .ok (.istore_n 3, 1) := dk_62 (dk_at dksX48_split_0 11 rfl rfl)
theorem dX48_split_12 : decode cX48_split 12 = .ok (.iload_n 3, 1) := dk_29 (dk_at dksX48_split_0 12 rfl rfl)
theorem dX48_split_13 : decode cX48_split 13 = .ok (.iload_n 2, 1) := dk_28 (dk_at dksX48_split_0 13 rfl rfl)
theorem dX48_split_14 : decode cX48_split 14 = .ok (.if_icmp .ge 75, 3) := dk_162 0 75 (dk_at dksX48_split_0 14 rfl rfl)
theorem dX48_split_17 : decode cX48_split 17 = .ok (.iload_n 3, 1) := dk_29 (dk_at dksX48_split_0 17 rfl rfl)
theorem dX48_split_18 : decode cX48_split 18 = .ok (.istore 4, 2) := dk_54 4 (dk_at dksX48_split_0 18 rfl rfl)
theorem dX48_split_20 : decode cX48_split 20 = .ok (.iload 4, 2) := dk_21 4 (dk_at dksX48_split_0 20 rfl rfl)
theorem dX48_split_22 : decode cX48_split 22 = .ok (.iload_n 2, 1) := dk_28 (dk_at dksX48_split_0 22 rfl rfl)
theorem dX48_split_23 : decode cX48_split 23 = .ok (.if_icmp .ge 21, 3) := dk_162 0 21 (dk_at dksX48_split_1 0 rfl rfl)
theorem dX48_split_26 : decode cX48_split 26 = .ok (.aload_n 0, 1) := dk_42 (dk_at dksX48_split_1 3 rfl rfl)
theorem dX48_split_27 : decode cX48_split 27 = .ok (.getfield 76, 3) := dk_180 0 76 (dk_at dksX48_split_1 4 rfl rfl)
theorem dX48_split_30 : decode cX48_split 30 = .ok (.iload 4, 2) := dk_21 4 (dk_at dksX48_split_1 7 rfl rfl)
theorem dX48_split_32 : decode cX48_split 32 = .ok (.baload, 1) := dk_51 (dk_at dksX48_split_1 9 rfl rfl)
theorem dX48_split_33 : decode cX48_split 33 = .ok (.bipush 32, 2) := dk_16 32 (dk_at dksX48_split_1 10 rfl rfl)
theorem dX48_split_35 : decode cX48_split 35 = .ok (.if_icmp .eq 9, 3) := dk_159 0 9 (dk_at dksX48_split_1 12 rfl rfl)
theorem dX48_split_38 : decode cX48_split 38 = .ok (.iinc 4 1, 3) := dk_132 4 1 (dk_at dksX48_split_1 15 rfl rfl)
theorem dX48_split_41 : decode cX48_split 41 = .ok (.goto (-21), 3) := dk_167 255 235 (dk_at dksX48_split_1 18 rfl rfl)
theorem dX48_split_44 : decode cX48_split 44 = .ok (.iload 4, 2) := dk_21 4 (dk_at dksX48_split_1 21 rfl rfl)
theorem dX48_split_46 : decode cX48_split 46 = .ok (.iload_n 3, 1) := dk_29 (dk_at dksX48_split_1 23 rfl rfl)
theorem dX48_split_47 : decode cX48_split 47 = .ok (.if_icmp .le 34, 3) := dk_164 0 34 (dk_at dksX48_split_2 0 rfl rfl)
theorem dX48_split_50 : decode cX48_split 50 = .ok (.aload_n 0, 1) := dk_42 (dk_at dksX48_split_2 3 rfl rfl)
theorem dX48_split_51 : decode cX48_split 51 = .ok (.getfield 92, 3) := dk_180 0 92 (dk_at dksX48_split_2 4 rfl rfl)
theorem dX48_split_54 : decode cX48_split 54 = .ok (.aload_n 0, 1) := dk_42 (dk_at dksX48_split_2 7 rfl rfl)
theorem dX48_split_55 : decode cX48_split 55 = .ok (.getfield 133, 3) := dk_180 0 133 (dk_at dksX48_split_2 8 rfl rfl)
theorem dX48_split_58 : decode cX48_split 58 = .ok (.iload_n 3, 1) := dk_29 (dk_at dksX48_split_2 11 rfl rfl)
theorem dX48_split_59 : decode cX48_split 59 = .ok (.iastore, 1) := dk_79 (dk_at dksX48_split_2 12 rfl rfl)
theorem dX48_split_60 : decode cX48_split 60 = .ok (.aload_n 0, 1) := dk_42 (dk_at dksX48_split_2 13 rfl rfl)
theorem dX48_split_61 : decode cX48_split 61 = .ok (.getfield 96, 3) := dk_180 0 96 (dk_at dksX48_split_2 14 rfl rfl)
theorem dX48_split_64 : decode cX48_split 64 = .ok (.aload_n 0, 1) := dk_42 (dk_at dksX48_split_2 17 rfl rfl)
theorem dX48_split_65 : decode cX48_split 65 = .ok (.getfield 133, 3) := dk_180 0 133 (dk_at dksX48_split_2 18 rfl rfl)
theorem dX48_split_68 : decode cX48_split 68 = .ok (.iload 4, 2) := dk_21 4 (dk_at dksX48_split_2 21 rfl rfl)
theorem dX48_split_70 : decode cX48_split 70 = .ok (.iastore, 1) := dk_79 (dk_at dksX48_split_2 23 rfl rfl)
theorem dX48_split_71 : decode cX48_split 71 = .ok (.aload_n 0, 1) := dk_42 (dk_at dksX48_split_3 0 rfl rfl)
theorem dX48_split_72 : decode cX48_split 72 = .ok (.dup, 1) := dk_89 (dk_at dksX48_split_3 1 rfl rfl)
theorem dX48_split_73 : decode cX48_split 73 = .ok (.getfield 133, 3) := dk_180 0 133 (dk_at dksX48_split_3 2 rfl rfl)
theorem dX48_split_76 : decode cX48_split 76 = .ok (.iconst 1, 1) := dk_4 (dk_at dksX48_split_3 5 rfl rfl)
theorem dX48_split_77 : decode cX48_split 77 = .ok (.iadd, 1) := dk_96 (dk_at dksX48_split_3 6 rfl rfl)
theorem dX48_split_78 : decode cX48_split 78 = .ok (.putfield 133, 3) := dk_181 0 133 (dk_at dksX48_split_3 7 rfl rfl)
theorem dX48_split_81 : decode cX48_split 81 = .ok (.iload 4, 2) := dk_21 4 (dk_at dksX48_split_3 10 rfl rfl)
theorem dX48_split_83 : decode cX48_split 83 = .ok (.iconst 1, 1) := dk_4 (dk_at dksX48_split_3 12 rfl rfl)
theorem dX48_split_84 : decode cX48_split 84 = .ok (.iadd, 1) := dk_96 (dk_at dksX48_split_3 13 rfl rfl)
theorem dX48_split_85 : decode cX48_split 85 = .ok (.istore_n 3, 1) := dk_62 (dk_at dksX48_split_3 14 rfl rfl)
theorem dX48_split_86 : decode cX48_split 86 = .ok (.goto (-74), 3) := dk_167 255 182 (dk_at dksX48_split_3 15 rfl rfl)
theorem dX48_split_89 : decode cX48_split 89 = .ok (.return_, 1) := dk_177 (dk_at dksX48_split_3 18 rfl rfl)
abbrev cX48_doLine : ByteArray := prog_56_method_14_code
def yX48_doLine : MethodName := ⟨RX48, "doLine", "()J"⟩
def dkwX48_doLine_11 : List UInt8 := [158, 0, 7, 4, 167, 0, 4, 3, 181, 0, 182, 31, 173, 42, 3, 181, 0, 167, 9, 173]
abbrev dktX48_doLine_11 : List UInt8 := dkwX48_doLine_11 ++ []
def dkwX48_doLine_10 : List UInt8 := [3, 18, 220, 182, 0, 160, 153, 0, 29, 42, 182, 0, 221, 64, 42, 42, 180, 0, 72, 182, 0, 223]
abbrev dktX48_doLine_10 : List UInt8 := dkwX48_doLine_10 ++ dktX48_doLine_11
def dkwX48_doLine_9 : List UInt8 := [153, 0, 8, 42, 182, 0, 215, 173, 42, 3, 18, 217, 182, 0, 160, 153, 0, 8, 42, 182, 0, 218, 173, 42]
abbrev dktX48_doLine_9 : List UInt8 := dkwX48_doLine_9 ++ dktX48_doLine_10
def dkwX48_doLine_8 : List UInt8 := [182, 0, 213, 158, 0, 7, 4, 167, 0, 4, 3, 181, 0, 182, 31, 173, 42, 3, 18, 214, 182, 0, 160]
abbrev dktX48_doLine_8 : List UInt8 := dkwX48_doLine_8 ++ dktX48_doLine_9
def dkwX48_doLine_7 : List UInt8 := [182, 0, 208, 173, 42, 3, 18, 210, 182, 0, 160, 153, 0, 29, 42, 182, 0, 211, 64, 42, 42, 180, 0, 49]
abbrev dktX48_doLine_7 : List UInt8 := dkwX48_doLine_7 ++ dktX48_doLine_8
def dkwX48_doLine_6 : List UInt8 := [158, 0, 7, 4, 167, 0, 4, 3, 181, 0, 182, 31, 173, 42, 3, 18, 207, 182, 0, 160, 153, 0, 8, 42]
abbrev dktX48_doLine_6 : List UInt8 := dkwX48_doLine_6 ++ dktX48_doLine_7
def dkwX48_doLine_5 : List UInt8 := [173, 42, 3, 18, 203, 182, 0, 160, 153, 0, 29, 42, 182, 0, 204, 64, 42, 42, 180, 0, 35, 182, 0, 206]
abbrev dktX48_doLine_5 : List UInt8 := dkwX48_doLine_5 ++ dktX48_doLine_6
def dkwX48_doLine_4 : List UInt8 := [182, 0, 200, 64, 42, 42, 180, 0, 28, 182, 0, 202, 158, 0, 7, 4, 167, 0, 4, 3, 181, 0, 182, 31]
abbrev dktX48_doLine_4 : List UInt8 := dkwX48_doLine_4 ++ dktX48_doLine_5
def dkwX48_doLine_3 : List UInt8 := [182, 0, 160, 153, 0, 8, 42, 182, 0, 197, 173, 42, 3, 18, 199, 182, 0, 160, 153, 0, 29, 42]
abbrev dktX48_doLine_3 : List UInt8 := dkwX48_doLine_3 ++ dktX48_doLine_4
def dkwX48_doLine_2 : List UInt8 := [42, 180, 0, 10, 182, 0, 193, 158, 0, 7, 4, 167, 0, 4, 3, 181, 0, 182, 31, 173, 42, 3, 18, 196]
abbrev dktX48_doLine_2 : List UInt8 := dkwX48_doLine_2 ++ dktX48_doLine_3
def dkwX48_doLine_1 : List UInt8 := [153, 0, 8, 42, 182, 0, 187, 173, 42, 3, 18, 190, 182, 0, 160, 153, 0, 29, 42, 182, 0, 191, 64, 42]
abbrev dktX48_doLine_1 : List UInt8 := dkwX48_doLine_1 ++ dktX48_doLine_2
def dkwX48_doLine_0 : List UInt8 := [42, 3, 181, 0, 182, 42, 2, 181, 0, 167, 42, 3, 181, 0, 164, 42, 3, 18, 185, 182, 0, 160]
abbrev dktX48_doLine_0 : List UInt8 := dkwX48_doLine_0 ++ dktX48_doLine_1
theorem dksX48_doLine_0 : cX48_doLine.data.toList.drop 0 = dktX48_doLine_0 := by decide +kernel
theorem dksX48_doLine_1 : cX48_doLine.data.toList.drop 22 = dktX48_doLine_1 := dk_seg dksX48_doLine_0 22 rfl rfl
theorem dksX48_doLine_2 : cX48_doLine.data.toList.drop 46 = dktX48_doLine_2 := dk_seg dksX48_doLine_1 24 rfl rfl
theorem dksX48_doLine_3 : cX48_doLine.data.toList.drop 70 = dktX48_doLine_3 := dk_seg dksX48_doLine_2 24 rfl rfl
theorem dksX48_doLine_4 : cX48_doLine.data.toList.drop 92 = dktX48_doLine_4 := dk_seg dksX48_doLine_3 22 rfl rfl
theorem dksX48_doLine_5 : cX48_doLine.data.toList.drop 116 = dktX48_doLine_5 := dk_seg dksX48_doLine_4 24 rfl rfl
theorem dksX48_doLine_6 : cX48_doLine.data.toList.drop 140 = dktX48_doLine_6 := dk_seg dksX48_doLine_5 24 rfl rfl
theorem dksX48_doLine_7 : cX48_doLine.data.toList.drop 164 = dktX48_doLine_7 := dk_seg dksX48_doLine_6 24 rfl rfl
theorem dksX48_doLine_8 : cX48_doLine.data.toList.drop 188 = dktX48_doLine_8 := dk_seg dksX48_doLine_7 24 rfl rfl
theorem dksX48_doLine_9 : cX48_doLine.data.toList.drop 211 = dktX48_doLine_9 := dk_seg dksX48_doLine_8 23 rfl rfl
theorem dksX48_doLine_10 : cX48_doLine.data.toList.drop 235 = dktX48_doLine_10 := dk_seg dksX48_doLine_9 24 rfl rfl
theorem dksX48_doLine_11 : cX48_doLine.data.toList.drop 257 = dktX48_doLine_11 := dk_seg dksX48_doLine_10 22 rfl rfl
theorem dX48_doLine_0 : decode cX48_doLine 0 = .ok (.aload_n 0, 1) := dk_42 (dk_at dksX48_doLine_0 0 rfl rfl)
theorem dX48_doLine_1 : decode cX48_doLine 1 = .ok (.iconst 0, 1) := dk_3 (dk_at dksX48_doLine_0 1 rfl rfl)
theorem dX48_doLine_2 : decode cX48_doLine 2 = .ok (.putfield 182, 3) := dk_181 0 182 (dk_at dksX48_doLine_0 2 rfl rfl)
theorem dX48_doLine_5 : decode cX48_doLine 5 = .ok (.aload_n 0, 1) := dk_42 (dk_at dksX48_doLine_0 5 rfl rfl)
theorem dX48_doLine_6 : decode cX48_doLine 6 = .ok (.iconst (-1), 1) := dk_2 (dk_at dksX48_doLine_0 6 rfl rfl)
theorem dX48_doLine_7 : decode cX48_doLine 7 = .ok (.putfield 167, 3) := dk_181 0 167 (dk_at dksX48_doLine_0 7 rfl rfl)
theorem dX48_doLine_10 : decode cX48_doLine 10 = .ok (.aload_n 0, 1) := dk_42 (dk_at dksX48_doLine_0 10 rfl rfl)
theorem dX48_doLine_11 : decode cX48_doLine 11 = .ok (.iconst 0, 1) := dk_3 (dk_at dksX48_doLine_0 11 rfl rfl)
theorem dX48_doLine_12 : decode cX48_doLine 12 = .ok (.putfield 164, 3) := dk_181 0 164 (dk_at dksX48_doLine_0 12 rfl rfl)
theorem dX48_doLine_15 : decode cX48_doLine 15 = .ok (.aload_n 0, 1) := dk_42 (dk_at dksX48_doLine_0 15 rfl rfl)
theorem dX48_doLine_16 : decode cX48_doLine 16 = .ok (.iconst 0, 1) := dk_3 (dk_at dksX48_doLine_0 16 rfl rfl)
theorem dX48_doLine_17 : decode cX48_doLine 17 = .ok (.ldc 185, 2) := dk_18 185 (dk_at dksX48_doLine_0 17 rfl rfl)
theorem dX48_doLine_19 : decode cX48_doLine 19 = .ok (.invokevirtual 160, 3) := dk_182 0 160 (dk_at dksX48_doLine_0 19 rfl rfl)
theorem dX48_doLine_22 : decode cX48_doLine 22 = .ok (.ifCond .eq 8, 3) := dk_153 0 8 (dk_at dksX48_doLine_1 0 rfl rfl)
theorem dX48_doLine_25 : decode cX48_doLine 25 = .ok (.aload_n 0, 1) := dk_42 (dk_at dksX48_doLine_1 3 rfl rfl)
theorem dX48_doLine_26 : decode cX48_doLine 26 = .ok (.invokevirtual 187, 3) := dk_182 0 187 (dk_at dksX48_doLine_1 4 rfl rfl)
theorem dX48_doLine_29 : decode cX48_doLine 29 = .ok (.lreturn, 1) := dk_173 (dk_at dksX48_doLine_1 7 rfl rfl)
theorem dX48_doLine_30 : decode cX48_doLine 30 = .ok (.aload_n 0, 1) := dk_42 (dk_at dksX48_doLine_1 8 rfl rfl)
theorem dX48_doLine_31 : decode cX48_doLine 31 = .ok (.iconst 0, 1) := dk_3 (dk_at dksX48_doLine_1 9 rfl rfl)
theorem dX48_doLine_32 : decode cX48_doLine 32 = .ok (.ldc 190, 2) := dk_18 190 (dk_at dksX48_doLine_1 10 rfl rfl)
theorem dX48_doLine_34 : decode cX48_doLine 34 = .ok (.invokevirtual 160, 3) := dk_182 0 160 (dk_at dksX48_doLine_1 12 rfl rfl)
theorem dX48_doLine_37 : decode cX48_doLine 37 = .ok (.ifCond .eq 29, 3) := dk_153 0 29 (dk_at dksX48_doLine_1 15 rfl rfl)
theorem dX48_doLine_40 : decode cX48_doLine 40 = .ok (.aload_n 0, 1) := dk_42 (dk_at dksX48_doLine_1 18 rfl rfl)
theorem dX48_doLine_41 : decode cX48_doLine 41 = .ok (.invokevirtual 191, 3) := dk_182 0 191 (dk_at dksX48_doLine_1 19 rfl rfl)
theorem dX48_doLine_44 : decode cX48_doLine 44 = .ok (.lstore_n 1, 1) := dk_64 (dk_at dksX48_doLine_1 22 rfl rfl)
theorem dX48_doLine_45 : decode cX48_doLine 45 = .ok (.aload_n 0, 1) := dk_42 (dk_at dksX48_doLine_1 23 rfl rfl)
theorem dX48_doLine_46 : decode cX48_doLine 46 = .ok (.aload_n 0, 1) := dk_42 (dk_at dksX48_doLine_2 0 rfl rfl)
theorem dX48_doLine_47 : decode cX48_doLine 47 = .ok (.getfield 10, 3) := dk_180 0 10 (dk_at dksX48_doLine_2 1 rfl rfl)
theorem dX48_doLine_50 : decode cX48_doLine 50 = .ok (.invokevirtual 193, 3) := dk_182 0 193 (dk_at dksX48_doLine_2 4 rfl rfl)
theorem dX48_doLine_53 : decode cX48_doLine 53 = .ok (.ifCond .le 7, 3) := dk_158 0 7 (dk_at dksX48_doLine_2 7 rfl rfl)
theorem dX48_doLine_56 : decode cX48_doLine 56 = .ok (.iconst 1, 1) := dk_4 (dk_at dksX48_doLine_2 10 rfl rfl)
theorem dX48_doLine_57 : decode cX48_doLine 57 = .ok (.goto 4, 3) := dk_167 0 4 (dk_at dksX48_doLine_2 11 rfl rfl)
theorem dX48_doLine_60 : decode cX48_doLine 60 = .ok (.iconst 0, 1) := dk_3 (dk_at dksX48_doLine_2 14 rfl rfl)
theorem dX48_doLine_61 : decode cX48_doLine 61 = .ok (.putfield 182, 3) := dk_181 0 182 (dk_at dksX48_doLine_2 15 rfl rfl)
theorem dX48_doLine_64 : decode cX48_doLine 64 = .ok (.lload_n 1, 1) := dk_31 (dk_at dksX48_doLine_2 18 rfl rfl)
theorem dX48_doLine_65 : decode cX48_doLine 65 = .ok (.lreturn, 1) := dk_173 (dk_at dksX48_doLine_2 19 rfl rfl)
theorem dX48_doLine_66 : decode cX48_doLine 66 = .ok (.aload_n 0, 1) := dk_42 (dk_at dksX48_doLine_2 20 rfl rfl)
theorem dX48_doLine_67 : decode cX48_doLine 67 = .ok (.iconst 0, 1) := dk_3 (dk_at dksX48_doLine_2 21 rfl rfl)
theorem dX48_doLine_68 : decode cX48_doLine 68 = .ok (.ldc 196, 2) := dk_18 196 (dk_at dksX48_doLine_2 22 rfl rfl)
theorem dX48_doLine_70 : decode cX48_doLine 70 = .ok (.invokevirtual 160, 3) := dk_182 0 160 (dk_at dksX48_doLine_3 0 rfl rfl)
theorem dX48_doLine_73 : decode cX48_doLine 73 = .ok (.ifCond .eq 8, 3) := dk_153 0 8 (dk_at dksX48_doLine_3 3 rfl rfl)
theorem dX48_doLine_76 : decode cX48_doLine 76 = .ok (.aload_n 0, 1) := dk_42 (dk_at dksX48_doLine_3 6 rfl rfl)
theorem dX48_doLine_77 : decode cX48_doLine 77 = .ok (.invokevirtual 197, 3) := dk_182 0 197 (dk_at dksX48_doLine_3 7 rfl rfl)
theorem dX48_doLine_80 : decode cX48_doLine 80 = .ok (.lreturn, 1) := dk_173 (dk_at dksX48_doLine_3 10 rfl rfl)
theorem dX48_doLine_81 : decode cX48_doLine 81 = .ok (.aload_n 0, 1) := dk_42 (dk_at dksX48_doLine_3 11 rfl rfl)
theorem dX48_doLine_82 : decode cX48_doLine 82 = .ok (.iconst 0, 1) := dk_3 (dk_at dksX48_doLine_3 12 rfl rfl)
theorem dX48_doLine_83 : decode cX48_doLine 83 = .ok (.ldc 199, 2) := dk_18 199 (dk_at dksX48_doLine_3 13 rfl rfl)
theorem dX48_doLine_85 : decode cX48_doLine 85 = .ok (.invokevirtual 160, 3) := dk_182 0 160 (dk_at dksX48_doLine_3 15 rfl rfl)
theorem dX48_doLine_88 : decode cX48_doLine 88 = .ok (.ifCond .eq 29, 3) := dk_153 0 29 (dk_at dksX48_doLine_3 18 rfl rfl)
theorem dX48_doLine_91 : decode cX48_doLine 91 = .ok (.aload_n 0, 1) := dk_42 (dk_at dksX48_doLine_3 21 rfl rfl)
theorem dX48_doLine_92 : decode cX48_doLine 92 = .ok (.invokevirtual 200, 3) := dk_182 0 200 (dk_at dksX48_doLine_4 0 rfl rfl)
theorem dX48_doLine_95 : decode cX48_doLine 95 = .ok (.lstore_n 1, 1) := dk_64 (dk_at dksX48_doLine_4 3 rfl rfl)
theorem dX48_doLine_96 : decode cX48_doLine 96 = .ok (.aload_n 0, 1) := dk_42 (dk_at dksX48_doLine_4 4 rfl rfl)
theorem dX48_doLine_97 : decode cX48_doLine 97 = .ok (.aload_n 0, 1) := dk_42 (dk_at dksX48_doLine_4 5 rfl rfl)
theorem dX48_doLine_98 : decode cX48_doLine 98 = .ok (.getfield 28, 3) := dk_180 0 28 (dk_at dksX48_doLine_4 6 rfl rfl)
theorem dX48_doLine_101 : decode cX48_doLine 101 = .ok (.invokevirtual 202, 3) := dk_182 0 202 (dk_at dksX48_doLine_4 9 rfl rfl)
theorem dX48_doLine_104 : decode cX48_doLine 104 = .ok (.ifCond .le 7, 3) := dk_158 0 7 (dk_at dksX48_doLine_4 12 rfl rfl)
theorem dX48_doLine_107 : decode cX48_doLine 107 = .ok (.iconst 1, 1) := dk_4 (dk_at dksX48_doLine_4 15 rfl rfl)
theorem dX48_doLine_108 : decode cX48_doLine 108 = .ok (.goto 4, 3) := dk_167 0 4 (dk_at dksX48_doLine_4 16 rfl rfl)
theorem dX48_doLine_111 : decode cX48_doLine 111 = .ok (.iconst 0, 1) := dk_3 (dk_at dksX48_doLine_4 19 rfl rfl)
theorem dX48_doLine_112 : decode cX48_doLine 112 = .ok (.putfield 182, 3) := dk_181 0 182 (dk_at dksX48_doLine_4 20 rfl rfl)
theorem dX48_doLine_115 : decode cX48_doLine 115 = .ok (.lload_n 1, 1) := dk_31 (dk_at dksX48_doLine_4 23 rfl rfl)
theorem dX48_doLine_116 : decode cX48_doLine 116 = .ok (.lreturn, 1) := dk_173 (dk_at dksX48_doLine_5 0 rfl rfl)
theorem dX48_doLine_117 : decode cX48_doLine 117 = .ok (.aload_n 0, 1) := dk_42 (dk_at dksX48_doLine_5 1 rfl rfl)
theorem dX48_doLine_118 : decode cX48_doLine 118 = .ok (.iconst 0, 1) := dk_3 (dk_at dksX48_doLine_5 2 rfl rfl)
theorem dX48_doLine_119 : decode cX48_doLine 119 = .ok (.ldc 203, 2) := dk_18 203 (dk_at dksX48_doLine_5 3 rfl rfl)
theorem dX48_doLine_121 : decode cX48_doLine 121 = .ok (.invokevirtual 160, 3) := dk_182 0 160 (dk_at dksX48_doLine_5 5 rfl rfl)
theorem dX48_doLine_124 : decode cX48_doLine 124 = .ok (.ifCond .eq 29, 3) := dk_153 0 29 (dk_at dksX48_doLine_5 8 rfl rfl)
theorem dX48_doLine_127 : decode cX48_doLine 127 = .ok (.aload_n 0, 1) := dk_42 (dk_at dksX48_doLine_5 11 rfl rfl)
theorem dX48_doLine_128 : decode cX48_doLine 128 = .ok (.invokevirtual 204, 3) := dk_182 0 204 (dk_at dksX48_doLine_5 12 rfl rfl)
theorem dX48_doLine_131 : decode cX48_doLine 131 = .ok (.lstore_n 1, 1) := dk_64 (dk_at dksX48_doLine_5 15 rfl rfl)
theorem dX48_doLine_132 : decode cX48_doLine 132 = .ok (.aload_n 0, 1) := dk_42 (dk_at dksX48_doLine_5 16 rfl rfl)
theorem dX48_doLine_133 : decode cX48_doLine 133 = .ok (.aload_n 0, 1) := dk_42 (dk_at dksX48_doLine_5 17 rfl rfl)
theorem dX48_doLine_134 : decode cX48_doLine 134 = .ok (.getfield 35, 3) := dk_180 0 35 (dk_at dksX48_doLine_5 18 rfl rfl)
theorem dX48_doLine_137 : decode cX48_doLine 137 = .ok (.invokevirtual 206, 3) := dk_182 0 206 (dk_at dksX48_doLine_5 21 rfl rfl)
theorem dX48_doLine_140 : decode cX48_doLine 140 = .ok (.ifCond .le 7, 3) := dk_158 0 7 (dk_at dksX48_doLine_6 0 rfl rfl)
theorem dX48_doLine_143 : decode cX48_doLine 143 = .ok (.iconst 1, 1) := dk_4 (dk_at dksX48_doLine_6 3 rfl rfl)
theorem dX48_doLine_144 : decode cX48_doLine 144 = .ok (.goto 4, 3) := dk_167 0 4 (dk_at dksX48_doLine_6 4 rfl rfl)
theorem dX48_doLine_147 : decode cX48_doLine 147 = .ok (.iconst 0, 1) := dk_3 (dk_at dksX48_doLine_6 7 rfl rfl)
theorem dX48_doLine_148 : decode cX48_doLine 148 = .ok (.putfield 182, 3) := dk_181 0 182 (dk_at dksX48_doLine_6 8 rfl rfl)
theorem dX48_doLine_151 : decode cX48_doLine 151 = .ok (.lload_n 1, 1) := dk_31 (dk_at dksX48_doLine_6 11 rfl rfl)
theorem dX48_doLine_152 : decode cX48_doLine 152 = .ok (.lreturn, 1) := dk_173 (dk_at dksX48_doLine_6 12 rfl rfl)
theorem dX48_doLine_153 : decode cX48_doLine 153 = .ok (.aload_n 0, 1) := dk_42 (dk_at dksX48_doLine_6 13 rfl rfl)
theorem dX48_doLine_154 : decode cX48_doLine 154 = .ok (.iconst 0, 1) := dk_3 (dk_at dksX48_doLine_6 14 rfl rfl)
theorem dX48_doLine_155 : decode cX48_doLine 155 = .ok (.ldc 207, 2) := dk_18 207 (dk_at dksX48_doLine_6 15 rfl rfl)
theorem dX48_doLine_157 : decode cX48_doLine 157 = .ok (.invokevirtual 160, 3) := dk_182 0 160 (dk_at dksX48_doLine_6 17 rfl rfl)
theorem dX48_doLine_160 : decode cX48_doLine 160 = .ok (.ifCond .eq 8, 3) := dk_153 0 8 (dk_at dksX48_doLine_6 20 rfl rfl)
theorem dX48_doLine_163 : decode cX48_doLine 163 = .ok (.aload_n 0, 1) := dk_42 (dk_at dksX48_doLine_6 23 rfl rfl)
theorem dX48_doLine_164 : decode cX48_doLine 164 = .ok (.invokevirtual 208, 3) := dk_182 0 208 (dk_at dksX48_doLine_7 0 rfl rfl)
theorem dX48_doLine_167 : decode cX48_doLine 167 = .ok (.lreturn, 1) := dk_173 (dk_at dksX48_doLine_7 3 rfl rfl)
theorem dX48_doLine_168 : decode cX48_doLine 168 = .ok (.aload_n 0, 1) := dk_42 (dk_at dksX48_doLine_7 4 rfl rfl)
theorem dX48_doLine_169 : decode cX48_doLine 169 = .ok (.iconst 0, 1) := dk_3 (dk_at dksX48_doLine_7 5 rfl rfl)
theorem dX48_doLine_170 : decode cX48_doLine 170 = .ok (.ldc 210, 2) := dk_18 210 (dk_at dksX48_doLine_7 6 rfl rfl)
theorem dX48_doLine_172 : decode cX48_doLine 172 = .ok (.invokevirtual 160, 3) := dk_182 0 160 (dk_at dksX48_doLine_7 8 rfl rfl)
theorem dX48_doLine_175 : decode cX48_doLine 175 = .ok (.ifCond .eq 29, 3) := dk_153 0 29 (dk_at dksX48_doLine_7 11 rfl rfl)
theorem dX48_doLine_178 : decode cX48_doLine 178 = .ok (.aload_n 0, 1) := dk_42 (dk_at dksX48_doLine_7 14 rfl rfl)
theorem dX48_doLine_179 : decode cX48_doLine 179 = .ok (.invokevirtual 211, 3) := dk_182 0 211 (dk_at dksX48_doLine_7 15 rfl rfl)
theorem dX48_doLine_182 : decode cX48_doLine 182 = .ok (.lstore_n 1, 1) := dk_64 (dk_at dksX48_doLine_7 18 rfl rfl)
theorem dX48_doLine_183 : decode cX48_doLine 183 = .ok (.aload_n 0, 1) := dk_42 (dk_at dksX48_doLine_7 19 rfl rfl)
theorem dX48_doLine_184 : decode cX48_doLine 184 = .ok (.aload_n 0, 1) := dk_42 (dk_at dksX48_doLine_7 20 rfl rfl)
theorem dX48_doLine_185 : decode cX48_doLine 185 = .ok (.getfield 49, 3) := dk_180 0 49 (dk_at dksX48_doLine_7 21 rfl rfl)
theorem dX48_doLine_188 : decode cX48_doLine 188 = .ok (.invokevirtual 213, 3) := dk_182 0 213 (dk_at dksX48_doLine_8 0 rfl rfl)
theorem dX48_doLine_191 : decode cX48_doLine 191 = .ok (.ifCond .le 7, 3) := dk_158 0 7 (dk_at dksX48_doLine_8 3 rfl rfl)
theorem dX48_doLine_194 : decode cX48_doLine 194 = .ok (.iconst 1, 1) := dk_4 (dk_at dksX48_doLine_8 6 rfl rfl)
theorem dX48_doLine_195 : decode cX48_doLine 195 = .ok (.goto 4, 3) := dk_167 0 4 (dk_at dksX48_doLine_8 7 rfl rfl)
theorem dX48_doLine_198 : decode cX48_doLine 198 = .ok (.iconst 0, 1) := dk_3 (dk_at dksX48_doLine_8 10 rfl rfl)
theorem dX48_doLine_199 : decode cX48_doLine 199 = .ok (.putfield 182, 3) := dk_181 0 182 (dk_at dksX48_doLine_8 11 rfl rfl)
theorem dX48_doLine_202 : decode cX48_doLine 202 = .ok (.lload_n 1, 1) := dk_31 (dk_at dksX48_doLine_8 14 rfl rfl)
theorem dX48_doLine_203 : decode cX48_doLine 203 = .ok (.lreturn, 1) := dk_173 (dk_at dksX48_doLine_8 15 rfl rfl)
theorem dX48_doLine_204 : decode cX48_doLine 204 = .ok (.aload_n 0, 1) := dk_42 (dk_at dksX48_doLine_8 16 rfl rfl)
theorem dX48_doLine_205 : decode cX48_doLine 205 = .ok (.iconst 0, 1) := dk_3 (dk_at dksX48_doLine_8 17 rfl rfl)
theorem dX48_doLine_206 : decode cX48_doLine 206 = .ok (.ldc 214, 2) := dk_18 214 (dk_at dksX48_doLine_8 18 rfl rfl)
theorem dX48_doLine_208 : decode cX48_doLine 208 = .ok (.invokevirtual 160, 3) := dk_182 0 160 (dk_at dksX48_doLine_8 20 rfl rfl)
theorem dX48_doLine_211 : decode cX48_doLine 211 = .ok (.ifCond .eq 8, 3) := dk_153 0 8 (dk_at dksX48_doLine_9 0 rfl rfl)
theorem dX48_doLine_214 : decode cX48_doLine 214 = .ok (.aload_n 0, 1) := dk_42 (dk_at dksX48_doLine_9 3 rfl rfl)
theorem dX48_doLine_215 : decode cX48_doLine 215 = .ok (.invokevirtual 215, 3) := dk_182 0 215 (dk_at dksX48_doLine_9 4 rfl rfl)
theorem dX48_doLine_218 : decode cX48_doLine 218 = .ok (.lreturn, 1) := dk_173 (dk_at dksX48_doLine_9 7 rfl rfl)
theorem dX48_doLine_219 : decode cX48_doLine 219 = .ok (.aload_n 0, 1) := dk_42 (dk_at dksX48_doLine_9 8 rfl rfl)
theorem dX48_doLine_220 : decode cX48_doLine 220 = .ok (.iconst 0, 1) := dk_3 (dk_at dksX48_doLine_9 9 rfl rfl)
theorem dX48_doLine_221 : decode cX48_doLine 221 = .ok (.ldc 217, 2) := dk_18 217 (dk_at dksX48_doLine_9 10 rfl rfl)
theorem dX48_doLine_223 : decode cX48_doLine 223 = .ok (.invokevirtual 160, 3) := dk_182 0 160 (dk_at dksX48_doLine_9 12 rfl rfl)
theorem dX48_doLine_226 : decode cX48_doLine 226 = .ok (.ifCond .eq 8, 3) := dk_153 0 8 (dk_at dksX48_doLine_9 15 rfl rfl)
theorem dX48_doLine_229 : decode cX48_doLine 229 = .ok (.aload_n 0, 1) := dk_42 (dk_at dksX48_doLine_9 18 rfl rfl)
theorem dX48_doLine_230 : decode cX48_doLine 230 = .ok (.invokevirtual 218, 3) := dk_182 0 218 (dk_at dksX48_doLine_9 19 rfl rfl)
theorem dX48_doLine_233 : decode cX48_doLine 233 = .ok (.lreturn, 1) := dk_173 (dk_at dksX48_doLine_9 22 rfl rfl)
theorem dX48_doLine_234 : decode cX48_doLine 234 = .ok (.aload_n 0, 1) := dk_42 (dk_at dksX48_doLine_9 23 rfl rfl)
theorem dX48_doLine_235 : decode cX48_doLine 235 = .ok (.iconst 0, 1) := dk_3 (dk_at dksX48_doLine_10 0 rfl rfl)
theorem dX48_doLine_236 : decode cX48_doLine 236 = .ok (.ldc 220, 2) := dk_18 220 (dk_at dksX48_doLine_10 1 rfl rfl)
theorem dX48_doLine_238 : decode cX48_doLine 238 = .ok (.invokevirtual 160, 3) := dk_182 0 160 (dk_at dksX48_doLine_10 3 rfl rfl)
theorem dX48_doLine_241 : decode cX48_doLine 241 = .ok (.ifCond .eq 29, 3) := dk_153 0 29 (dk_at dksX48_doLine_10 6 rfl rfl)
theorem dX48_doLine_244 : decode cX48_doLine 244 = .ok (.aload_n 0, 1) := dk_42 (dk_at dksX48_doLine_10 9 rfl rfl)
theorem dX48_doLine_245 : decode cX48_doLine 245 = .ok (.invokevirtual 221, 3) := dk_182 0 221 (dk_at dksX48_doLine_10 10 rfl rfl)
theorem dX48_doLine_248 : decode cX48_doLine 248 = .ok (.lstore_n 1, 1) := dk_64 (dk_at dksX48_doLine_10 13 rfl rfl)
theorem dX48_doLine_249 : decode cX48_doLine 249 = .ok (.aload_n 0, 1) := dk_42 (dk_at dksX48_doLine_10 14 rfl rfl)
theorem dX48_doLine_250 : decode cX48_doLine 250 = .ok (.aload_n 0, 1) := dk_42 (dk_at dksX48_doLine_10 15 rfl rfl)
theorem dX48_doLine_251 : decode cX48_doLine 251 = .ok (.getfield 72, 3) := dk_180 0 72 (dk_at dksX48_doLine_10 16 rfl rfl)
theorem dX48_doLine_254 : decode cX48_doLine 254 = .ok (.invokevirtual 223, 3) := dk_182 0 223 (dk_at dksX48_doLine_10 19 rfl rfl)
theorem dX48_doLine_257 : decode cX48_doLine 257 = .ok (.ifCond .le 7, 3) := dk_158 0 7 (dk_at dksX48_doLine_11 0 rfl rfl)
theorem dX48_doLine_260 : decode cX48_doLine 260 = .ok (.iconst 1, 1) := dk_4 (dk_at dksX48_doLine_11 3 rfl rfl)
theorem dX48_doLine_261 : decode cX48_doLine 261 = .ok (.goto 4, 3) := dk_167 0 4 (dk_at dksX48_doLine_11 4 rfl rfl)
theorem dX48_doLine_264 : decode cX48_doLine 264 = .ok (.iconst 0, 1) := dk_3 (dk_at dksX48_doLine_11 7 rfl rfl)
theorem dX48_doLine_265 : decode cX48_doLine 265 = .ok (.putfield 182, 3) := dk_181 0 182 (dk_at dksX48_doLine_11 8 rfl rfl)
theorem dX48_doLine_268 : decode cX48_doLine 268 = .ok (.lload_n 1, 1) := dk_31 (dk_at dksX48_doLine_11 11 rfl rfl)
theorem dX48_doLine_269 : decode cX48_doLine 269 = .ok (.lreturn, 1) := dk_173 (dk_at dksX48_doLine_11 12 rfl rfl)
theorem dX48_doLine_270 : decode cX48_doLine 270 = .ok (.aload_n 0, 1) := dk_42 (dk_at dksX48_doLine_11 13 rfl rfl)
theorem dX48_doLine_271 : decode cX48_doLine 271 = .ok (.iconst 0, 1) := dk_3 (dk_at dksX48_doLine_11 14 rfl rfl)
theorem dX48_doLine_272 : decode cX48_doLine 272 = .ok (.putfield 167, 3) := dk_181 0 167 (dk_at dksX48_doLine_11 15 rfl rfl)
theorem dX48_doLine_275 : decode cX48_doLine 275 = .ok (.lconst 0, 1) := dk_9 (dk_at dksX48_doLine_11 18 rfl rfl)
theorem dX48_doLine_276 : decode cX48_doLine 276 = .ok (.lreturn, 1) := dk_173 (dk_at dksX48_doLine_11 19 rfl rfl)
abbrev cX48_is : ByteArray := prog_56_method_7_code
def yX48_is : MethodName := ⟨RX48, "is", "(ILjava/lang/String;)Z"⟩
def dkwX48_is_3 : List UInt8 := [160, 0, 7, 4, 167, 0, 4, 3, 54, 4, 132, 5, 1, 167, 255, 212, 21, 4, 172]
abbrev dktX48_is_3 : List UInt8 := dkwX48_is_3 ++ []
def dkwX48_is_2 : List UInt8 := [153, 0, 39, 42, 180, 0, 76, 42, 180, 0, 92, 27, 46, 21, 5, 96, 51, 44, 21, 5, 182, 0, 145]
abbrev dktX48_is_2 : List UInt8 := dkwX48_is_2 ++ dktX48_is_3
def dkwX48_is_1 : List UInt8 := [46, 100, 29, 160, 0, 7, 4, 167, 0, 4, 3, 54, 4, 3, 54, 5, 21, 5, 29, 162, 0, 44, 21, 4]
abbrev dktX48_is_1 : List UInt8 := dkwX48_is_1 ++ dktX48_is_2
def dkwX48_is_0 : List UInt8 := [44, 182, 0, 139, 62, 27, 42, 180, 0, 133, 162, 0, 24, 42, 180, 0, 96, 27, 46, 42, 180, 0, 92, 27]
abbrev dktX48_is_0 : List UInt8 := dkwX48_is_0 ++ dktX48_is_1
theorem dksX48_is_0 : cX48_is.data.toList.drop 0 = dktX48_is_0 := by decide +kernel
theorem dksX48_is_1 : cX48_is.data.toList.drop 24 = dktX48_is_1 := dk_seg dksX48_is_0 24 rfl rfl
theorem dksX48_is_2 : cX48_is.data.toList.drop 48 = dktX48_is_2 := dk_seg dksX48_is_1 24 rfl rfl
theorem dksX48_is_3 : cX48_is.data.toList.drop 71 = dktX48_is_3 := dk_seg dksX48_is_2 23 rfl rfl
theorem dX48_is_0 : decode cX48_is 0 = .ok (.aload_n 2, 1) := dk_44 (dk_at dksX48_is_0 0 rfl rfl)
theorem dX48_is_1 : decode cX48_is 1 = .ok (.invokevirtual 139, 3) := dk_182 0 139 (dk_at dksX48_is_0 1 rfl rfl)
theorem dX48_is_4 : decode cX48_is 4 = .ok (.istore_n 3, 1) := dk_62 (dk_at dksX48_is_0 4 rfl rfl)
theorem dX48_is_5 : decode cX48_is 5 = .ok (.iload_n 1, 1) := dk_27 (dk_at dksX48_is_0 5 rfl rfl)
theorem dX48_is_6 : decode cX48_is 6 = .ok (.aload_n 0, 1) := dk_42 (dk_at dksX48_is_0 6 rfl rfl)
theorem dX48_is_7 : decode cX48_is 7 = .ok (.getfield 133, 3) := dk_180 0 133 (dk_at dksX48_is_0 7 rfl rfl)
theorem dX48_is_10 : decode cX48_is 10 = .ok (.if_icmp .ge 24, 3) := dk_162 0 24 (dk_at dksX48_is_0 10 rfl rfl)
theorem dX48_is_13 : decode cX48_is 13 = .ok (.aload_n 0, 1) := dk_42 (dk_at dksX48_is_0 13 rfl rfl)
theorem dX48_is_14 : decode cX48_is 14 = .ok (.getfield 96, 3) := dk_180 0 96 (dk_at dksX48_is_0 14 rfl rfl)
theorem dX48_is_17 : decode cX48_is 17 = .ok (.iload_n 1, 1) := dk_27 (dk_at dksX48_is_0 17 rfl rfl)
theorem dX48_is_18 : decode cX48_is 18 = .ok (.iaload, 1) := dk_46 (dk_at dksX48_is_0 18 rfl rfl)
theorem dX48_is_19 : decode cX48_is 19 = .ok (.aload_n 0, 1) := dk_42 (dk_at dksX48_is_0 19 rfl rfl)
theorem dX48_is_20 : decode cX48_is 20 = .ok (.getfield 92, 3) := dk_180 0 92 (dk_at dksX48_is_0 20 rfl rfl)
theorem dX48_is_23 : decode cX48_is 23 = .ok (.iload_n 1, 1) := dk_27 (dk_at dksX48_is_0 23 rfl rfl)
theorem dX48_is_24 : decode cX48_is 24 = .ok (.iaload, 1) := dk_46 (dk_at dksX48_is_1 0 rfl rfl)
theorem dX48_is_25 : decode cX48_is 25 = .ok (.isub, 1) := dk_100 (dk_at dksX48_is_1 1 rfl rfl)
theorem dX48_is_26 : decode cX48_is 26 = .ok (.iload_n 3, 1) := dk_29 (dk_at dksX48_is_1 2 rfl rfl)
theorem dX48_is_27 : decode cX48_is 27 = .ok (.if_icmp .ne 7, 3) := dk_160 0 7 (dk_at dksX48_is_1 3 rfl rfl)
theorem dX48_is_30 : decode cX48_is 30 = .ok (.iconst 1, 1) := dk_4 (dk_at dksX48_is_1 6 rfl rfl)
theorem dX48_is_31 : decode cX48_is 31 = .ok (.goto 4, 3) := dk_167 0 4 (dk_at dksX48_is_1 7 rfl rfl)
theorem dX48_is_34 : decode cX48_is 34 = .ok (.iconst 0, 1) := dk_3 (dk_at dksX48_is_1 10 rfl rfl)
theorem dX48_is_35 : decode cX48_is 35 = .ok (.istore 4, 2) := dk_54 4 (dk_at dksX48_is_1 11 rfl rfl)
theorem dX48_is_37 : decode cX48_is 37 = .ok (.iconst 0, 1) := dk_3 (dk_at dksX48_is_1 13 rfl rfl)
theorem dX48_is_38 : decode cX48_is 38 = .ok (.istore 5, 2) := dk_54 5 (dk_at dksX48_is_1 14 rfl rfl)
theorem dX48_is_40 : decode cX48_is 40 = .ok (.iload 5, 2) := dk_21 5 (dk_at dksX48_is_1 16 rfl rfl)
theorem dX48_is_42 : decode cX48_is 42 = .ok (.iload_n 3, 1) := dk_29 (dk_at dksX48_is_1 18 rfl rfl)
theorem dX48_is_43 : decode cX48_is 43 = .ok (.if_icmp .ge 44, 3) := dk_162 0 44 (dk_at dksX48_is_1 19 rfl rfl)
theorem dX48_is_46 : decode cX48_is 46 = .ok (.iload 4, 2) := dk_21 4 (dk_at dksX48_is_1 22 rfl rfl)
theorem dX48_is_48 : decode cX48_is 48 = .ok (.ifCond .eq 39, 3) := dk_153 0 39 (dk_at dksX48_is_2 0 rfl rfl)
theorem dX48_is_51 : decode cX48_is 51 = .ok (.aload_n 0, 1) := dk_42 (dk_at dksX48_is_2 3 rfl rfl)
theorem dX48_is_52 : decode cX48_is 52 = .ok (.getfield 76, 3) := dk_180 0 76 (dk_at dksX48_is_2 4 rfl rfl)
theorem dX48_is_55 : decode cX48_is 55 = .ok (.aload_n 0, 1) := dk_42 (dk_at dksX48_is_2 7 rfl rfl)
theorem dX48_is_56 : decode cX48_is 56 = .ok (.getfield 92, 3) := dk_180 0 92 (dk_at dksX48_is_2 8 rfl rfl)
theorem dX48_is_59 : decode cX48_is 59 = .ok (.iload_n 1, 1) := dk_27 (dk_at dksX48_is_2 11 rfl rfl)
theorem dX48_is_60 : decode cX48_is 60 = .ok (.iaload, 1) := dk_46 (dk_at dksX48_is_2 12 rfl rfl)
theorem dX48_is_61 : decode cX48_is 61 = .ok (.iload 5, 2) := dk_21 5 (dk_at dksX48_is_2 13 rfl rfl)
theorem dX48_is_63 : decode cX48_is 63 = .ok (.iadd, 1) := dk_96 (dk_at dksX48_is_2 15 rfl rfl)
theorem dX48_is_64 : decode cX48_is 64 = .ok (.baload, 1) := dk_51 (dk_at dksX48_is_2 16 rfl rfl)
theorem dX48_is_65 : decode cX48_is 65 = .ok (.aload_n 2, 1) := dk_44 (dk_at dksX48_is_2 17 rfl rfl)
theorem dX48_is_66 : decode cX48_is 66 = .ok (.iload 5, 2) := dk_21 5 (dk_at dksX48_is_2 18 rfl rfl)
theorem dX48_is_68 : decode cX48_is 68 = .ok (.invokevirtual 145, 3) := dk_182 0 145 (dk_at dksX48_is_2 20 rfl rfl)
theorem dX48_is_71 : decode cX48_is 71 = .ok (.if_icmp .ne 7, 3) := dk_160 0 7 (dk_at dksX48_is_3 0 rfl rfl)
theorem dX48_is_74 : decode cX48_is 74 = .ok (.iconst 1, 1) := dk_4 (dk_at dksX48_is_3 3 rfl rfl)
theorem dX48_is_75 : decode cX48_is 75 = .ok (.goto 4, 3) := dk_167 0 4 (dk_at dksX48_is_3 4 rfl rfl)
theorem dX48_is_78 : decode cX48_is 78 = .ok (.iconst 0, 1) := dk_3 (dk_at dksX48_is_3 7 rfl rfl)
theorem dX48_is_79 : decode cX48_is 79 = .ok (.istore 4, 2) := dk_54 4 (dk_at dksX48_is_3 8 rfl rfl)
theorem dX48_is_81 : decode cX48_is 81 = .ok (.iinc 5 1, 3) := dk_132 5 1 (dk_at dksX48_is_3 10 rfl rfl)
theorem dX48_is_84 : decode cX48_is 84 = .ok (.goto (-44), 3) := dk_167 255 212 (dk_at dksX48_is_3 13 rfl rfl)
theorem dX48_is_87 : decode cX48_is 87 = .ok (.iload 4, 2) := dk_21 4 (dk_at dksX48_is_3 16 rfl rfl)
theorem dX48_is_89 : decode cX48_is 89 = .ok (.ireturn, 1) := dk_172 (dk_at dksX48_is_3 18 rfl rfl)
abbrev cX48_house : ByteArray := prog_56_method_27_code
def yX48_house : MethodName := ⟨RX48, "house", "()J"⟩
def dkwX48_house_23 : List UInt8 := [184, 1, 72, 167, 0, 4, 9, 173, 42, 182, 1, 76, 173]
abbrev dktX48_house_23 : List UInt8 := dkwX48_house_23 ++ []
def dkwX48_house_22 : List UInt8 := [19, 1, 68, 19, 1, 16, 182, 1, 7, 153, 0, 22, 42, 180, 0, 167, 156, 0, 13, 42, 182, 1, 70]
abbrev dktX48_house_22 : List UInt8 := dkwX48_house_22 ++ dktX48_house_23
def dkwX48_house_21 : List UInt8 := [180, 0, 102, 42, 180, 0, 99, 3, 47, 136, 47, 167, 0, 10, 20, 0, 234, 167, 0, 4, 9, 173, 42]
abbrev dktX48_house_21 : List UInt8 := dkwX48_house_21 ++ dktX48_house_22
def dkwX48_house_20 : List UInt8 := [180, 0, 99, 3, 47, 9, 148, 155, 0, 31, 42, 180, 0, 99, 3, 47, 20, 1, 66, 148, 156, 0, 18, 42]
abbrev dktX48_house_20 : List UInt8 := dkwX48_house_20 ++ dktX48_house_21
def dkwX48_house_19 : List UInt8 := [9, 173, 42, 19, 1, 65, 19, 1, 22, 182, 1, 7, 153, 0, 57, 42, 180, 0, 167, 156, 0, 48, 42]
abbrev dktX48_house_19 : List UInt8 := dkwX48_house_19 ++ dktX48_house_20
def dkwX48_house_18 : List UInt8 := [156, 0, 24, 42, 42, 180, 0, 99, 3, 47, 136, 42, 180, 0, 99, 4, 47, 136, 182, 1, 63, 167, 0, 4]
abbrev dktX48_house_18 : List UInt8 := dkwX48_house_18 ++ dktX48_house_19
def dkwX48_house_17 : List UInt8 := [180, 1, 0, 133, 173, 42, 19, 1, 61, 19, 1, 36, 182, 1, 7, 153, 0, 33, 42, 180, 0, 167]
abbrev dktX48_house_17 : List UInt8 := dkwX48_house_17 ++ dktX48_house_18
def dkwX48_house_16 : List UInt8 := [182, 1, 58, 167, 0, 4, 9, 173, 42, 19, 1, 60, 19, 1, 16, 182, 1, 7, 153, 0, 9, 42]
abbrev dktX48_house_16 : List UInt8 := dkwX48_house_16 ++ dktX48_house_17
def dkwX48_house_15 : List UInt8 := [19, 1, 22, 182, 1, 7, 153, 0, 26, 42, 180, 0, 167, 156, 0, 17, 42, 42, 180, 0, 99, 3, 47, 136]
abbrev dktX48_house_15 : List UInt8 := dkwX48_house_15 ++ dktX48_house_16
def dkwX48_house_14 : List UInt8 := [180, 0, 99, 3, 47, 136, 42, 180, 0, 99, 4, 47, 182, 1, 54, 167, 0, 4, 9, 173, 42, 19, 1, 56]
abbrev dktX48_house_14 : List UInt8 := dkwX48_house_14 ++ dktX48_house_15
def dkwX48_house_13 : List UInt8 := [42, 19, 1, 52, 19, 1, 28, 182, 1, 7, 153, 0, 32, 42, 180, 0, 167, 156, 0, 23, 42, 42]
abbrev dktX48_house_13 : List UInt8 := dkwX48_house_13 ++ dktX48_house_14
def dkwX48_house_12 : List UInt8 := [5, 47, 136, 42, 180, 0, 99, 6, 47, 136, 42, 180, 0, 99, 7, 47, 182, 1, 49, 167, 0, 4, 9, 173]
abbrev dktX48_house_12 : List UInt8 := dkwX48_house_12 ++ dktX48_house_13
def dkwX48_house_11 : List UInt8 := [180, 0, 167, 156, 0, 43, 42, 42, 180, 0, 99, 3, 47, 136, 42, 180, 0, 99, 4, 47, 42, 180, 0, 99]
abbrev dktX48_house_11 : List UInt8 := dkwX48_house_11 ++ dktX48_house_12
def dkwX48_house_10 : List UInt8 := [182, 1, 43, 167, 0, 4, 9, 173, 42, 19, 1, 45, 19, 1, 47, 182, 1, 7, 153, 0, 52, 42]
abbrev dktX48_house_10 : List UInt8 := dkwX48_house_10 ++ dktX48_house_11
def dkwX48_house_9 : List UInt8 := [9, 173, 42, 19, 1, 41, 19, 1, 16, 182, 1, 7, 153, 0, 19, 42, 180, 0, 167, 156, 0, 10, 42]
abbrev dktX48_house_9 : List UInt8 := dkwX48_house_9 ++ dktX48_house_10
def dkwX48_house_8 : List UInt8 := [156, 0, 24, 42, 42, 180, 0, 99, 3, 47, 136, 42, 180, 0, 99, 4, 47, 136, 182, 1, 38, 167, 0, 4]
abbrev dktX48_house_8 : List UInt8 := dkwX48_house_8 ++ dktX48_house_9
def dkwX48_house_7 : List UInt8 := [167, 0, 4, 9, 173, 42, 19, 1, 34, 19, 1, 36, 182, 1, 7, 153, 0, 33, 42, 180, 0, 167]
abbrev dktX48_house_7 : List UInt8 := dkwX48_house_7 ++ dktX48_house_8
def dkwX48_house_6 : List UInt8 := [42, 180, 0, 167, 156, 0, 23, 42, 42, 180, 0, 99, 3, 47, 136, 42, 180, 0, 99, 4, 47, 182, 1, 30]
abbrev dktX48_house_6 : List UInt8 := dkwX48_house_6 ++ dktX48_house_7
def dkwX48_house_5 : List UInt8 := [3, 47, 136, 182, 1, 24, 167, 0, 4, 9, 173, 42, 19, 1, 26, 19, 1, 28, 182, 1, 7, 153, 0, 32]
abbrev dktX48_house_5 : List UInt8 := dkwX48_house_5 ++ dktX48_house_6
def dkwX48_house_4 : List UInt8 := [19, 1, 20, 19, 1, 22, 182, 1, 7, 153, 0, 26, 42, 180, 0, 167, 156, 0, 17, 42, 42, 180, 0, 99]
abbrev dktX48_house_4 : List UInt8 := dkwX48_house_4 ++ dktX48_house_5
def dkwX48_house_3 : List UInt8 := [182, 1, 7, 153, 0, 19, 42, 180, 0, 167, 156, 0, 10, 42, 182, 1, 18, 167, 0, 4, 9, 173, 42]
abbrev dktX48_house_3 : List UInt8 := dkwX48_house_3 ++ dktX48_house_4
def dkwX48_house_2 : List UInt8 := [6, 47, 42, 180, 0, 99, 7, 47, 136, 182, 1, 11, 167, 0, 4, 9, 173, 42, 19, 1, 14, 19, 1, 16]
abbrev dktX48_house_2 : List UInt8 := dkwX48_house_2 ++ dktX48_house_3
def dkwX48_house_1 : List UInt8 := [180, 0, 99, 3, 47, 136, 42, 180, 0, 99, 4, 47, 136, 42, 180, 0, 99, 5, 47, 136, 42, 180, 0, 99]
abbrev dktX48_house_1 : List UInt8 := dkwX48_house_1 ++ dktX48_house_2
def dkwX48_house_0 : List UInt8 := [42, 19, 1, 3, 19, 1, 5, 182, 1, 7, 153, 0, 53, 42, 180, 0, 167, 156, 0, 44, 42, 42]
abbrev dktX48_house_0 : List UInt8 := dkwX48_house_0 ++ dktX48_house_1
theorem dksX48_house_0 : cX48_house.data.toList.drop 0 = dktX48_house_0 := by decide +kernel
theorem dksX48_house_1 : cX48_house.data.toList.drop 22 = dktX48_house_1 := dk_seg dksX48_house_0 22 rfl rfl
theorem dksX48_house_2 : cX48_house.data.toList.drop 46 = dktX48_house_2 := dk_seg dksX48_house_1 24 rfl rfl
theorem dksX48_house_3 : cX48_house.data.toList.drop 70 = dktX48_house_3 := dk_seg dksX48_house_2 24 rfl rfl
theorem dksX48_house_4 : cX48_house.data.toList.drop 93 = dktX48_house_4 := dk_seg dksX48_house_3 23 rfl rfl
theorem dksX48_house_5 : cX48_house.data.toList.drop 117 = dktX48_house_5 := dk_seg dksX48_house_4 24 rfl rfl
theorem dksX48_house_6 : cX48_house.data.toList.drop 141 = dktX48_house_6 := dk_seg dksX48_house_5 24 rfl rfl
theorem dksX48_house_7 : cX48_house.data.toList.drop 165 = dktX48_house_7 := dk_seg dksX48_house_6 24 rfl rfl
theorem dksX48_house_8 : cX48_house.data.toList.drop 187 = dktX48_house_8 := dk_seg dksX48_house_7 22 rfl rfl
theorem dksX48_house_9 : cX48_house.data.toList.drop 211 = dktX48_house_9 := dk_seg dksX48_house_8 24 rfl rfl
theorem dksX48_house_10 : cX48_house.data.toList.drop 234 = dktX48_house_10 := dk_seg dksX48_house_9 23 rfl rfl
theorem dksX48_house_11 : cX48_house.data.toList.drop 256 = dktX48_house_11 := dk_seg dksX48_house_10 22 rfl rfl
theorem dksX48_house_12 : cX48_house.data.toList.drop 280 = dktX48_house_12 := dk_seg dksX48_house_11 24 rfl rfl
theorem dksX48_house_13 : cX48_house.data.toList.drop 304 = dktX48_house_13 := dk_seg dksX48_house_12 24 rfl rfl
theorem dksX48_house_14 : cX48_house.data.toList.drop 326 = dktX48_house_14 := dk_seg dksX48_house_13 22 rfl rfl
theorem dksX48_house_15 : cX48_house.data.toList.drop 350 = dktX48_house_15 := dk_seg dksX48_house_14 24 rfl rfl
theorem dksX48_house_16 : cX48_house.data.toList.drop 374 = dktX48_house_16 := dk_seg dksX48_house_15 24 rfl rfl
theorem dksX48_house_17 : cX48_house.data.toList.drop 396 = dktX48_house_17 := dk_seg dksX48_house_16 22 rfl rfl
theorem dksX48_house_18 : cX48_house.data.toList.drop 418 = dktX48_house_18 := dk_seg dksX48_house_17 22 rfl rfl
theorem dksX48_house_19 : cX48_house.data.toList.drop 442 = dktX48_house_19 := dk_seg dksX48_house_18 24 rfl rfl
theorem dksX48_house_20 : cX48_house.data.toList.drop 465 = dktX48_house_20 := dk_seg dksX48_house_19 23 rfl rfl
theorem dksX48_house_21 : cX48_house.data.toList.drop 489 = dktX48_house_21 := dk_seg dksX48_house_20 24 rfl rfl
theorem dksX48_house_22 : cX48_house.data.toList.drop 512 = dktX48_house_22 := dk_seg dksX48_house_21 23 rfl rfl
theorem dksX48_house_23 : cX48_house.data.toList.drop 535 = dktX48_house_23 := dk_seg dksX48_house_22 23 rfl rfl
theorem dX48_house_0 : decode cX48_house 0 = .ok (.aload_n 0, 1) := dk_42 (dk_at dksX48_house_0 0 rfl rfl)
theorem dX48_house_1 : decode cX48_house 1 = .ok (.ldc_w 259, 3) := dk_19 1 3 (dk_at dksX48_house_0 1 rfl rfl)
theorem dX48_house_4 : decode cX48_house 4 = .ok (.ldc_w 261, 3) := dk_19 1 5 (dk_at dksX48_house_0 4 rfl rfl)
theorem dX48_house_7 : decode cX48_house 7 = .ok (.invokevirtual 263, 3) := dk_182 1 7 (dk_at dksX48_house_0 7 rfl rfl)
theorem dX48_house_10 : decode cX48_house 10 = .ok (.ifCond .eq 53, 3) := dk_153 0 53 (dk_at dksX48_house_0 10 rfl rfl)
theorem dX48_house_13 : decode cX48_house 13 = .ok (.aload_n 0, 1) := dk_42 (dk_at dksX48_house_0 13 rfl rfl)
theorem dX48_house_14 : decode cX48_house 14 = .ok (.getfield 167, 3) := dk_180 0 167 (dk_at dksX48_house_0 14 rfl rfl)
theorem dX48_house_17 : decode cX48_house 17 = .ok (.ifCond .ge 44, 3) := dk_156 0 44 (dk_at dksX48_house_0 17 rfl rfl)
theorem dX48_house_20 : decode cX48_house 20 = .ok (.aload_n 0, 1) := dk_42 (dk_at dksX48_house_0 20 rfl rfl)
theorem dX48_house_21 : decode cX48_house 21 = .ok (.aload_n 0, 1) := dk_42 (dk_at dksX48_house_0 21 rfl rfl)
theorem dX48_house_22 : decode cX48_house 22 = .ok (.getfield 99, 3) := dk_180 0 99 (dk_at dksX48_house_1 0 rfl rfl)
theorem dX48_house_25 : decode cX48_house 25 = .ok (.iconst 0, 1) := dk_3 (dk_at dksX48_house_1 3 rfl rfl)
theorem dX48_house_26 : decode cX48_house 26 = .ok (.laload, 1) := dk_47 (dk_at dksX48_house_1 4 rfl rfl)
theorem dX48_house_27 : decode cX48_house 27 = .ok (.l2i, 1) := dk_136 (dk_at dksX48_house_1 5 rfl rfl)
theorem dX48_house_28 : decode cX48_house 28 = .ok (.aload_n 0, 1) := dk_42 (dk_at dksX48_house_1 6 rfl rfl)
theorem dX48_house_29 : decode cX48_house 29 = .ok (.getfield 99, 3) := dk_180 0 99 (dk_at dksX48_house_1 7 rfl rfl)
theorem dX48_house_32 : decode cX48_house 32 = .ok (.iconst 1, 1) := dk_4 (dk_at dksX48_house_1 10 rfl rfl)
theorem dX48_house_33 : decode cX48_house 33 = .ok (.laload, 1) := dk_47 (dk_at dksX48_house_1 11 rfl rfl)
theorem dX48_house_34 : decode cX48_house 34 = .ok (.l2i, 1) := dk_136 (dk_at dksX48_house_1 12 rfl rfl)
theorem dX48_house_35 : decode cX48_house 35 = .ok (.aload_n 0, 1) := dk_42 (dk_at dksX48_house_1 13 rfl rfl)
theorem dX48_house_36 : decode cX48_house 36 = .ok (.getfield 99, 3) := dk_180 0 99 (dk_at dksX48_house_1 14 rfl rfl)
theorem dX48_house_39 : decode cX48_house 39 = .ok (.iconst 2, 1) := dk_5 (dk_at dksX48_house_1 17 rfl rfl)
theorem dX48_house_40 : decode cX48_house 40 = .ok (.laload, 1) := dk_47 (dk_at dksX48_house_1 18 rfl rfl)
theorem dX48_house_41 : decode cX48_house 41 = .ok (.l2i, 1) := dk_136 (dk_at dksX48_house_1 19 rfl rfl)
theorem dX48_house_42 : decode cX48_house 42 = .ok (.aload_n 0, 1) := dk_42 (dk_at dksX48_house_1 20 rfl rfl)
theorem dX48_house_43 : decode cX48_house 43 = .ok (.getfield 99, 3) := dk_180 0 99 (dk_at dksX48_house_1 21 rfl rfl)
theorem dX48_house_46 : decode cX48_house 46 = .ok (.iconst 3, 1) := dk_6 (dk_at dksX48_house_2 0 rfl rfl)
theorem dX48_house_47 : decode cX48_house 47 = .ok (.laload, 1) := dk_47 (dk_at dksX48_house_2 1 rfl rfl)
theorem dX48_house_48 : decode cX48_house 48 = .ok (.aload_n 0, 1) := dk_42 (dk_at dksX48_house_2 2 rfl rfl)
theorem dX48_house_49 : decode cX48_house 49 = .ok (.getfield 99, 3) := dk_180 0 99 (dk_at dksX48_house_2 3 rfl rfl)
theorem dX48_house_52 : decode cX48_house 52 = .ok (.iconst 4, 1) := dk_7 (dk_at dksX48_house_2 6 rfl rfl)
theorem dX48_house_53 : decode cX48_house 53 = .ok (.laload, 1) := dk_47 (dk_at dksX48_house_2 7 rfl rfl)
theorem dX48_house_54 : decode cX48_house 54 = .ok (.l2i, 1) := dk_136 (dk_at dksX48_house_2 8 rfl rfl)
theorem dX48_house_55 : decode cX48_house 55 = .ok (.invokevirtual 267, 3) := dk_182 1 11 (dk_at dksX48_house_2 9 rfl rfl)
theorem dX48_house_58 : decode cX48_house 58 = .ok (.goto 4, 3) := dk_167 0 4 (dk_at dksX48_house_2 12 rfl rfl)
theorem dX48_house_61 : decode cX48_house 61 = .ok (.lconst 0, 1) := dk_9 (dk_at dksX48_house_2 15 rfl rfl)
theorem dX48_house_62 : decode cX48_house 62 = .ok (.lreturn, 1) := dk_173 (dk_at dksX48_house_2 16 rfl rfl)
theorem dX48_house_63 : decode cX48_house 63 = .ok (.aload_n 0, 1) := dk_42 (dk_at dksX48_house_2 17 rfl rfl)
theorem dX48_house_64 : decode cX48_house 64 = .ok (.ldc_w 270, 3) := dk_19 1 14 (dk_at dksX48_house_2 18 rfl rfl)
theorem dX48_house_67 : decode cX48_house 67 = .ok (.ldc_w 272, 3) := dk_19 1 16 (dk_at dksX48_house_2 21 rfl rfl)
theorem dX48_house_70 : decode cX48_house 70 = .ok (.invokevirtual 263, 3) := dk_182 1 7 (dk_at dksX48_house_3 0 rfl rfl)
theorem dX48_house_73 : decode cX48_house 73 = .ok (.ifCond .eq 19, 3) := dk_153 0 19 (dk_at dksX48_house_3 3 rfl rfl)
theorem dX48_house_76 : decode cX48_house 76 = .ok (.aload_n 0, 1) := dk_42 (dk_at dksX48_house_3 6 rfl rfl)
theorem dX48_house_77 : decode cX48_house 77 = .ok (.getfield 167, 3) := dk_180 0 167 (dk_at dksX48_house_3 7 rfl rfl)
theorem dX48_house_80 : decode cX48_house 80 = .ok (.ifCond .ge 10, 3) := dk_156 0 10 (dk_at dksX48_house_3 10 rfl rfl)
theorem dX48_house_83 : decode cX48_house 83 = .ok (.aload_n 0, 1) := dk_42 (dk_at dksX48_house_3 13 rfl rfl)
theorem dX48_house_84 : decode cX48_house 84 = .ok (.invokevirtual 274, 3) := dk_182 1 18 (dk_at dksX48_house_3 14 rfl rfl)
theorem dX48_house_87 : decode cX48_house 87 = .ok (.goto 4, 3) := dk_167 0 4 (dk_at dksX48_house_3 17 rfl rfl)
theorem dX48_house_90 : decode cX48_house 90 = .ok (.lconst 0, 1) := dk_9 (dk_at dksX48_house_3 20 rfl rfl)
theorem dX48_house_91 : decode cX48_house 91 = .ok (.lreturn, 1) := dk_173 (dk_at dksX48_house_3 21 rfl rfl)
theorem dX48_house_92 : decode cX48_house 92 = .ok (.aload_n 0, 1) := dk_42 (dk_at dksX48_house_3 22 rfl rfl)
theorem dX48_house_93 : decode cX48_house 93 = .ok (.ldc_w 276, 3) := dk_19 1 20 (dk_at dksX48_house_4 0 rfl rfl)
theorem dX48_house_96 : decode cX48_house 96 = .ok (.ldc_w 278, 3) := dk_19 1 22 (dk_at dksX48_house_4 3 rfl rfl)
theorem dX48_house_99 : decode cX48_house 99 = .ok (.invokevirtual 263, 3) := dk_182 1 7 (dk_at dksX48_house_4 6 rfl rfl)
theorem dX48_house_102 : decode cX48_house 102 = .ok (.ifCond .eq 26, 3) := dk_153 0 26 (dk_at dksX48_house_4 9 rfl rfl)
theorem dX48_house_105 : decode cX48_house 105 = .ok (.aload_n 0, 1) := dk_42 (dk_at dksX48_house_4 12 rfl rfl)
theorem dX48_house_106 : decode cX48_house 106 = .ok (.getfield 167, 3) := dk_180 0 167 (dk_at dksX48_house_4 13 rfl rfl)
theorem dX48_house_109 : decode cX48_house 109 = .ok (.ifCond .ge 17, 3) := dk_156 0 17 (dk_at dksX48_house_4 16 rfl rfl)
theorem dX48_house_112 : decode cX48_house 112 = .ok (.aload_n 0, 1) := dk_42 (dk_at dksX48_house_4 19 rfl rfl)
theorem dX48_house_113 : decode cX48_house 113 = .ok (.aload_n 0, 1) := dk_42 (dk_at dksX48_house_4 20 rfl rfl)
theorem dX48_house_114 : decode cX48_house 114 = .ok (.getfield 99, 3) := dk_180 0 99 (dk_at dksX48_house_4 21 rfl rfl)
theorem dX48_house_117 : decode cX48_house 117 = .ok (.iconst 0, 1) := dk_3 (dk_at dksX48_house_5 0 rfl rfl)
theorem dX48_house_118 : decode cX48_house 118 = .ok (.laload, 1) := dk_47 (dk_at dksX48_house_5 1 rfl rfl)
theorem dX48_house_119 : decode cX48_house 119 = .ok (.l2i, 1) := dk_136 (dk_at dksX48_house_5 2 rfl rfl)
theorem dX48_house_120 : decode cX48_house 120 = .ok (.invokevirtual 280, 3) := dk_182 1 24 (dk_at dksX48_house_5 3 rfl rfl)
theorem dX48_house_123 : decode cX48_house 123 = .ok (.goto 4, 3) := dk_167 0 4 (dk_at dksX48_house_5 6 rfl rfl)
theorem dX48_house_126 : decode cX48_house 126 = .ok (.lconst 0, 1) := dk_9 (dk_at dksX48_house_5 9 rfl rfl)
theorem dX48_house_127 : decode cX48_house 127 = .ok (.lreturn, 1) := dk_173 (dk_at dksX48_house_5 10 rfl rfl)
theorem dX48_house_128 : decode cX48_house 128 = .ok (.aload_n 0, 1) := dk_42 (dk_at dksX48_house_5 11 rfl rfl)
theorem dX48_house_129 : decode cX48_house 129 = .ok (.ldc_w 282, 3) := dk_19 1 26 (dk_at dksX48_house_5 12 rfl rfl)
theorem dX48_house_132 : decode cX48_house 132 = .ok (.ldc_w 284, 3) := dk_19 1 28 (dk_at dksX48_house_5 15 rfl rfl)
theorem dX48_house_135 : decode cX48_house 135 = .ok (.invokevirtual 263, 3) := dk_182 1 7 (dk_at dksX48_house_5 18 rfl rfl)
theorem dX48_house_138 : decode cX48_house 138 = .ok (.ifCond .eq 32, 3) := dk_153 0 32 (dk_at dksX48_house_5 21 rfl rfl)
theorem dX48_house_141 : decode cX48_house 141 = .ok (.aload_n 0, 1) := dk_42 (dk_at dksX48_house_6 0 rfl rfl)
theorem dX48_house_142 : decode cX48_house 142 = .ok (.getfield 167, 3) := dk_180 0 167 (dk_at dksX48_house_6 1 rfl rfl)
theorem dX48_house_145 : decode cX48_house 145 = .ok (.ifCond .ge 23, 3) := dk_156 0 23 (dk_at dksX48_house_6 4 rfl rfl)
theorem dX48_house_148 : decode cX48_house 148 = .ok (.aload_n 0, 1) := dk_42 (dk_at dksX48_house_6 7 rfl rfl)
theorem dX48_house_149 : decode cX48_house 149 = .ok (.aload_n 0, 1) := dk_42 (dk_at dksX48_house_6 8 rfl rfl)
theorem dX48_house_150 : decode cX48_house 150 = .ok (.getfield 99, 3) := dk_180 0 99 (dk_at dksX48_house_6 9 rfl rfl)
theorem dX48_house_153 : decode cX48_house 153 = .ok (.iconst 0, 1) := dk_3 (dk_at dksX48_house_6 12 rfl rfl)
theorem dX48_house_154 : decode cX48_house 154 = .ok (.laload, 1) := dk_47 (dk_at dksX48_house_6 13 rfl rfl)
theorem dX48_house_155 : decode cX48_house 155 = .ok (.l2i, 1) := dk_136 (dk_at dksX48_house_6 14 rfl rfl)
theorem dX48_house_156 : decode cX48_house 156 = .ok (.aload_n 0, 1) := dk_42 (dk_at dksX48_house_6 15 rfl rfl)
theorem dX48_house_157 : decode cX48_house 157 = .ok (.getfield 99, 3) := dk_180 0 99 (dk_at dksX48_house_6 16 rfl rfl)
theorem dX48_house_160 : decode cX48_house 160 = .ok (.iconst 1, 1) := dk_4 (dk_at dksX48_house_6 19 rfl rfl)
theorem dX48_house_161 : decode cX48_house 161 = .ok (.laload, 1) := dk_47 (dk_at dksX48_house_6 20 rfl rfl)
theorem dX48_house_162 : decode cX48_house 162 = .ok (.invokevirtual 286, 3) := dk_182 1 30 (dk_at dksX48_house_6 21 rfl rfl)
theorem dX48_house_165 : decode cX48_house 165 = .ok (.goto 4, 3) := dk_167 0 4 (dk_at dksX48_house_7 0 rfl rfl)
theorem dX48_house_168 : decode cX48_house 168 = .ok (.lconst 0, 1) := dk_9 (dk_at dksX48_house_7 3 rfl rfl)
theorem dX48_house_169 : decode cX48_house 169 = .ok (.lreturn, 1) := dk_173 (dk_at dksX48_house_7 4 rfl rfl)
theorem dX48_house_170 : decode cX48_house 170 = .ok (.aload_n 0, 1) := dk_42 (dk_at dksX48_house_7 5 rfl rfl)
theorem dX48_house_171 : decode cX48_house 171 = .ok (.ldc_w 290, 3) := dk_19 1 34 (dk_at dksX48_house_7 6 rfl rfl)
theorem dX48_house_174 : decode cX48_house 174 = .ok (.ldc_w 292, 3) := dk_19 1 36 (dk_at dksX48_house_7 9 rfl rfl)
theorem dX48_house_177 : decode cX48_house 177 = .ok (.invokevirtual 263, 3) := dk_182 1 7 (dk_at dksX48_house_7 12 rfl rfl)
theorem dX48_house_180 : decode cX48_house 180 = .ok (.ifCond .eq 33, 3) := dk_153 0 33 (dk_at dksX48_house_7 15 rfl rfl)
theorem dX48_house_183 : decode cX48_house 183 = .ok (.aload_n 0, 1) := dk_42 (dk_at dksX48_house_7 18 rfl rfl)
theorem dX48_house_184 : decode cX48_house 184 = .ok (.getfield 167, 3) := dk_180 0 167 (dk_at dksX48_house_7 19 rfl rfl)
theorem dX48_house_187 : decode cX48_house 187 = .ok (.ifCond .ge 24, 3) := dk_156 0 24 (dk_at dksX48_house_8 0 rfl rfl)
theorem dX48_house_190 : decode cX48_house 190 = .ok (.aload_n 0, 1) := dk_42 (dk_at dksX48_house_8 3 rfl rfl)
theorem dX48_house_191 : decode cX48_house 191 = .ok (.aload_n 0, 1) := dk_42 (dk_at dksX48_house_8 4 rfl rfl)
theorem dX48_house_192 : decode cX48_house 192 = .ok (.getfield 99, 3) := dk_180 0 99 (dk_at dksX48_house_8 5 rfl rfl)
theorem dX48_house_195 : decode cX48_house 195 = .ok (.iconst 0, 1) := dk_3 (dk_at dksX48_house_8 8 rfl rfl)
theorem dX48_house_196 : decode cX48_house 196 = .ok (.laload, 1) := dk_47 (dk_at dksX48_house_8 9 rfl rfl)
theorem dX48_house_197 : decode cX48_house 197 = .ok (.l2i, 1) := dk_136 (dk_at dksX48_house_8 10 rfl rfl)
theorem dX48_house_198 : decode cX48_house 198 = .ok (.aload_n 0, 1) := dk_42 (dk_at dksX48_house_8 11 rfl rfl)
theorem dX48_house_199 : decode cX48_house 199 = .ok (.getfield 99, 3) := dk_180 0 99 (dk_at dksX48_house_8 12 rfl rfl)
theorem dX48_house_202 : decode cX48_house 202 = .ok (.iconst 1, 1) := dk_4 (dk_at dksX48_house_8 15 rfl rfl)
theorem dX48_house_203 : decode cX48_house 203 = .ok (.laload, 1) := dk_47 (dk_at dksX48_house_8 16 rfl rfl)
theorem dX48_house_204 : decode cX48_house 204 = .ok (.l2i, 1) := dk_136 (dk_at dksX48_house_8 17 rfl rfl)
theorem dX48_house_205 : decode cX48_house 205 = .ok (.invokevirtual 294, 3) := dk_182 1 38 (dk_at dksX48_house_8 18 rfl rfl)
theorem dX48_house_208 : decode cX48_house 208 = .ok (.goto 4, 3) := dk_167 0 4 (dk_at dksX48_house_8 21 rfl rfl)
theorem dX48_house_211 : decode cX48_house 211 = .ok (.lconst 0, 1) := dk_9 (dk_at dksX48_house_9 0 rfl rfl)
theorem dX48_house_212 : decode cX48_house 212 = .ok (.lreturn, 1) := dk_173 (dk_at dksX48_house_9 1 rfl rfl)
theorem dX48_house_213 : decode cX48_house 213 = .ok (.aload_n 0, 1) := dk_42 (dk_at dksX48_house_9 2 rfl rfl)
theorem dX48_house_214 : decode cX48_house 214 = .ok (.ldc_w 297, 3) := dk_19 1 41 (dk_at dksX48_house_9 3 rfl rfl)
theorem dX48_house_217 : decode cX48_house 217 = .ok (.ldc_w 272, 3) := dk_19 1 16 (dk_at dksX48_house_9 6 rfl rfl)
theorem dX48_house_220 : decode cX48_house 220 = .ok (.invokevirtual 263, 3) := dk_182 1 7 (dk_at dksX48_house_9 9 rfl rfl)
theorem dX48_house_223 : decode cX48_house 223 = .ok (.ifCond .eq 19, 3) := dk_153 0 19 (dk_at dksX48_house_9 12 rfl rfl)
theorem dX48_house_226 : decode cX48_house 226 = .ok (.aload_n 0, 1) := dk_42 (dk_at dksX48_house_9 15 rfl rfl)
theorem dX48_house_227 : decode cX48_house 227 = .ok (.getfield 167, 3) := dk_180 0 167 (dk_at dksX48_house_9 16 rfl rfl)
theorem dX48_house_230 : decode cX48_house 230 = .ok (.ifCond .ge 10, 3) := dk_156 0 10 (dk_at dksX48_house_9 19 rfl rfl)
theorem dX48_house_233 : decode cX48_house 233 = .ok (.aload_n 0, 1) := dk_42 (dk_at dksX48_house_9 22 rfl rfl)
theorem dX48_house_234 : decode cX48_house 234 = .ok (.invokevirtual 299, 3) := dk_182 1 43 (dk_at dksX48_house_10 0 rfl rfl)
theorem dX48_house_237 : decode cX48_house 237 = .ok (.goto 4, 3) := dk_167 0 4 (dk_at dksX48_house_10 3 rfl rfl)
theorem dX48_house_240 : decode cX48_house 240 = .ok (.lconst 0, 1) := dk_9 (dk_at dksX48_house_10 6 rfl rfl)
theorem dX48_house_241 : decode cX48_house 241 = .ok (.lreturn, 1) := dk_173 (dk_at dksX48_house_10 7 rfl rfl)
theorem dX48_house_242 : decode cX48_house 242 = .ok (.aload_n 0, 1) := dk_42 (dk_at dksX48_house_10 8 rfl rfl)
theorem dX48_house_243 : decode cX48_house 243 = .ok (.ldc_w 301, 3) := dk_19 1 45 (dk_at dksX48_house_10 9 rfl rfl)
theorem dX48_house_246 : decode cX48_house 246 = .ok (.ldc_w 303, 3) := dk_19 1 47 (dk_at dksX48_house_10 12 rfl rfl)
theorem dX48_house_249 : decode cX48_house 249 = .ok (.invokevirtual 263, 3) := dk_182 1 7 (dk_at dksX48_house_10 15 rfl rfl)
theorem dX48_house_252 : decode cX48_house 252 = .ok (.ifCond .eq 52, 3) := dk_153 0 52 (dk_at dksX48_house_10 18 rfl rfl)
theorem dX48_house_255 : decode cX48_house 255 = .ok (.aload_n 0, 1) := dk_42 (dk_at dksX48_house_10 21 rfl rfl)
theorem dX48_house_256 : decode cX48_house 256 = .ok (.getfield 167, 3) := dk_180 0 167 (dk_at dksX48_house_11 0 rfl rfl)
theorem dX48_house_259 : decode cX48_house 259 = .ok (.ifCond .ge 43, 3) := dk_156 0 43 (dk_at dksX48_house_11 3 rfl rfl)
theorem dX48_house_262 : decode cX48_house 262 = .ok (.aload_n 0, 1) := dk_42 (dk_at dksX48_house_11 6 rfl rfl)
theorem dX48_house_263 : decode cX48_house 263 = .ok (.aload_n 0, 1) := dk_42 (dk_at dksX48_house_11 7 rfl rfl)
theorem dX48_house_264 : decode cX48_house 264 = .ok (.getfield 99, 3) := dk_180 0 99 (dk_at dksX48_house_11 8 rfl rfl)
theorem dX48_house_267 : decode cX48_house 267 = .ok (.iconst 0, 1) := dk_3 (dk_at dksX48_house_11 11 rfl rfl)
theorem dX48_house_268 : decode cX48_house 268 = .ok (.laload, 1) := dk_47 (dk_at dksX48_house_11 12 rfl rfl)
theorem dX48_house_269 : decode cX48_house 269 = .ok (.l2i, 1) := dk_136 (dk_at dksX48_house_11 13 rfl rfl)
theorem dX48_house_270 : decode cX48_house 270 = .ok (.aload_n 0, 1) := dk_42 (dk_at dksX48_house_11 14 rfl rfl)
theorem dX48_house_271 : decode cX48_house 271 = .ok (.getfield 99, 3) := dk_180 0 99 (dk_at dksX48_house_11 15 rfl rfl)
theorem dX48_house_274 : decode cX48_house 274 = .ok (.iconst 1, 1) := dk_4 (dk_at dksX48_house_11 18 rfl rfl)
theorem dX48_house_275 : decode cX48_house 275 = .ok (.laload, 1) := dk_47 (dk_at dksX48_house_11 19 rfl rfl)
theorem dX48_house_276 : decode cX48_house 276 = .ok (.aload_n 0, 1) := dk_42 (dk_at dksX48_house_11 20 rfl rfl)
theorem dX48_house_277 : decode cX48_house 277 = .ok (.getfield 99, 3) := dk_180 0 99 (dk_at dksX48_house_11 21 rfl rfl)
theorem dX48_house_280 : decode cX48_house 280 = .ok (.iconst 2, 1) := dk_5 (dk_at dksX48_house_12 0 rfl rfl)
theorem dX48_house_281 : decode cX48_house 281 = .ok (.laload, 1) := dk_47 (dk_at dksX48_house_12 1 rfl rfl)
theorem dX48_house_282 : decode cX48_house 282 = .ok (.l2i, 1) := dk_136 (dk_at dksX48_house_12 2 rfl rfl)
theorem dX48_house_283 : decode cX48_house 283 = .ok (.aload_n 0, 1) := dk_42 (dk_at dksX48_house_12 3 rfl rfl)
theorem dX48_house_284 : decode cX48_house 284 = .ok (.getfield 99, 3) := dk_180 0 99 (dk_at dksX48_house_12 4 rfl rfl)
theorem dX48_house_287 : decode cX48_house 287 = .ok (.iconst 3, 1) := dk_6 (dk_at dksX48_house_12 7 rfl rfl)
theorem dX48_house_288 : decode cX48_house 288 = .ok (.laload, 1) := dk_47 (dk_at dksX48_house_12 8 rfl rfl)
theorem dX48_house_289 : decode cX48_house 289 = .ok (.l2i, 1) := dk_136 (dk_at dksX48_house_12 9 rfl rfl)
theorem dX48_house_290 : decode cX48_house 290 = .ok (.aload_n 0, 1) := dk_42 (dk_at dksX48_house_12 10 rfl rfl)
theorem dX48_house_291 : decode cX48_house 291 = .ok (.getfield 99, 3) := dk_180 0 99 (dk_at dksX48_house_12 11 rfl rfl)
theorem dX48_house_294 : decode cX48_house 294 = .ok (.iconst 4, 1) := dk_7 (dk_at dksX48_house_12 14 rfl rfl)
theorem dX48_house_295 : decode cX48_house 295 = .ok (.laload, 1) := dk_47 (dk_at dksX48_house_12 15 rfl rfl)
theorem dX48_house_296 : decode cX48_house 296 = .ok (.invokevirtual 305, 3) := dk_182 1 49 (dk_at dksX48_house_12 16 rfl rfl)
theorem dX48_house_299 : decode cX48_house 299 = .ok (.goto 4, 3) := dk_167 0 4 (dk_at dksX48_house_12 19 rfl rfl)
theorem dX48_house_302 : decode cX48_house 302 = .ok (.lconst 0, 1) := dk_9 (dk_at dksX48_house_12 22 rfl rfl)
theorem dX48_house_303 : decode cX48_house 303 = .ok (.lreturn, 1) := dk_173 (dk_at dksX48_house_12 23 rfl rfl)
theorem dX48_house_304 : decode cX48_house 304 = .ok (.aload_n 0, 1) := dk_42 (dk_at dksX48_house_13 0 rfl rfl)
theorem dX48_house_305 : decode cX48_house 305 = .ok (.ldc_w 308, 3) := dk_19 1 52 (dk_at dksX48_house_13 1 rfl rfl)
theorem dX48_house_308 : decode cX48_house 308 = .ok (.ldc_w 284, 3) := dk_19 1 28 (dk_at dksX48_house_13 4 rfl rfl)
theorem dX48_house_311 : decode cX48_house 311 = .ok (.invokevirtual 263, 3) := dk_182 1 7 (dk_at dksX48_house_13 7 rfl rfl)
theorem dX48_house_314 : decode cX48_house 314 = .ok (.ifCond .eq 32, 3) := dk_153 0 32 (dk_at dksX48_house_13 10 rfl rfl)
theorem dX48_house_317 : decode cX48_house 317 = .ok (.aload_n 0, 1) := dk_42 (dk_at dksX48_house_13 13 rfl rfl)
theorem dX48_house_318 : decode cX48_house 318 = .ok (.getfield 167, 3) := dk_180 0 167 (dk_at dksX48_house_13 14 rfl rfl)
theorem dX48_house_321 : decode cX48_house 321 = .ok (.ifCond .ge 23, 3) := dk_156 0 23 (dk_at dksX48_house_13 17 rfl rfl)
theorem dX48_house_324 : decode cX48_house 324 = .ok (.aload_n 0, 1) := dk_42 (dk_at dksX48_house_13 20 rfl rfl)
theorem dX48_house_325 : decode cX48_house 325 = .ok (.aload_n 0, 1) := dk_42 (dk_at dksX48_house_13 21 rfl rfl)
theorem dX48_house_326 : decode cX48_house 326 = .ok (.getfield 99, 3) := dk_180 0 99 (dk_at dksX48_house_14 0 rfl rfl)
theorem dX48_house_329 : decode cX48_house 329 = .ok (.iconst 0, 1) := dk_3 (dk_at dksX48_house_14 3 rfl rfl)
theorem dX48_house_330 : decode cX48_house 330 = .ok (.laload, 1) := dk_47 (dk_at dksX48_house_14 4 rfl rfl)
theorem dX48_house_331 : decode cX48_house 331 = .ok (.l2i, 1) := dk_136 (dk_at dksX48_house_14 5 rfl rfl)
theorem dX48_house_332 : decode cX48_house 332 = .ok (.aload_n 0, 1) := dk_42 (dk_at dksX48_house_14 6 rfl rfl)
theorem dX48_house_333 : decode cX48_house 333 = .ok (.getfield 99, 3) := dk_180 0 99 (dk_at dksX48_house_14 7 rfl rfl)
theorem dX48_house_336 : decode cX48_house 336 = .ok (.iconst 1, 1) := dk_4 (dk_at dksX48_house_14 10 rfl rfl)
theorem dX48_house_337 : decode cX48_house 337 = .ok (.laload, 1) := dk_47 (dk_at dksX48_house_14 11 rfl rfl)
theorem dX48_house_338 : decode cX48_house 338 = .ok (.invokevirtual 310, 3) := dk_182 1 54 (dk_at dksX48_house_14 12 rfl rfl)
theorem dX48_house_341 : decode cX48_house 341 = .ok (.goto 4, 3) := dk_167 0 4 (dk_at dksX48_house_14 15 rfl rfl)
theorem dX48_house_344 : decode cX48_house 344 = .ok (.lconst 0, 1) := dk_9 (dk_at dksX48_house_14 18 rfl rfl)
theorem dX48_house_345 : decode cX48_house 345 = .ok (.lreturn, 1) := dk_173 (dk_at dksX48_house_14 19 rfl rfl)
theorem dX48_house_346 : decode cX48_house 346 = .ok (.aload_n 0, 1) := dk_42 (dk_at dksX48_house_14 20 rfl rfl)
theorem dX48_house_347 : decode cX48_house 347 = .ok (.ldc_w 312, 3) := dk_19 1 56 (dk_at dksX48_house_14 21 rfl rfl)
theorem dX48_house_350 : decode cX48_house 350 = .ok (.ldc_w 278, 3) := dk_19 1 22 (dk_at dksX48_house_15 0 rfl rfl)
theorem dX48_house_353 : decode cX48_house 353 = .ok (.invokevirtual 263, 3) := dk_182 1 7 (dk_at dksX48_house_15 3 rfl rfl)
theorem dX48_house_356 : decode cX48_house 356 = .ok (.ifCond .eq 26, 3) := dk_153 0 26 (dk_at dksX48_house_15 6 rfl rfl)
theorem dX48_house_359 : decode cX48_house 359 = .ok (.aload_n 0, 1) := dk_42 (dk_at dksX48_house_15 9 rfl rfl)
theorem dX48_house_360 : decode cX48_house 360 = .ok (.getfield 167, 3) := dk_180 0 167 (dk_at dksX48_house_15 10 rfl rfl)
theorem dX48_house_363 : decode cX48_house 363 = .ok (.ifCond .ge 17, 3) := dk_156 0 17 (dk_at dksX48_house_15 13 rfl rfl)
theorem dX48_house_366 : decode cX48_house 366 = .ok (.aload_n 0, 1) := dk_42 (dk_at dksX48_house_15 16 rfl rfl)
theorem dX48_house_367 : decode cX48_house 367 = .ok (.aload_n 0, 1) := dk_42 (dk_at dksX48_house_15 17 rfl rfl)
theorem dX48_house_368 : decode cX48_house 368 = .ok (.getfield 99, 3) := dk_180 0 99 (dk_at dksX48_house_15 18 rfl rfl)
theorem dX48_house_371 : decode cX48_house 371 = .ok (.iconst 0, 1) := dk_3 (dk_at dksX48_house_15 21 rfl rfl)
theorem dX48_house_372 : decode cX48_house 372 = .ok (.laload, 1) := dk_47 (dk_at dksX48_house_15 22 rfl rfl)
theorem dX48_house_373 : decode cX48_house 373 = .ok (.l2i, 1) := dk_136 (dk_at dksX48_house_15 23 rfl rfl)
theorem dX48_house_374 : decode cX48_house 374 = .ok (.invokevirtual 314, 3) := dk_182 1 58 (dk_at dksX48_house_16 0 rfl rfl)
theorem dX48_house_377 : decode cX48_house 377 = .ok (.goto 4, 3) := dk_167 0 4 (dk_at dksX48_house_16 3 rfl rfl)
theorem dX48_house_380 : decode cX48_house 380 = .ok (.lconst 0, 1) := dk_9 (dk_at dksX48_house_16 6 rfl rfl)
theorem dX48_house_381 : decode cX48_house 381 = .ok (.lreturn, 1) := dk_173 (dk_at dksX48_house_16 7 rfl rfl)
theorem dX48_house_382 : decode cX48_house 382 = .ok (.aload_n 0, 1) := dk_42 (dk_at dksX48_house_16 8 rfl rfl)
theorem dX48_house_383 : decode cX48_house 383 = .ok (.ldc_w 316, 3) := dk_19 1 60 (dk_at dksX48_house_16 9 rfl rfl)
theorem dX48_house_386 : decode cX48_house 386 = .ok (.ldc_w 272, 3) := dk_19 1 16 (dk_at dksX48_house_16 12 rfl rfl)
theorem dX48_house_389 : decode cX48_house 389 = .ok (.invokevirtual 263, 3) := dk_182 1 7 (dk_at dksX48_house_16 15 rfl rfl)
theorem dX48_house_392 : decode cX48_house 392 = .ok (.ifCond .eq 9, 3) := dk_153 0 9 (dk_at dksX48_house_16 18 rfl rfl)
theorem dX48_house_395 : decode cX48_house 395 = .ok (.aload_n 0, 1) := dk_42 (dk_at dksX48_house_16 21 rfl rfl)
theorem dX48_house_396 : decode cX48_house 396 = .ok (.getfield 256, 3) := dk_180 1 0 (dk_at dksX48_house_17 0 rfl rfl)
theorem dX48_house_399 : decode cX48_house 399 = .ok (.i2l, 1) := dk_133 (dk_at dksX48_house_17 3 rfl rfl)
theorem dX48_house_400 : decode cX48_house 400 = .ok (.lreturn, 1) := dk_173 (dk_at dksX48_house_17 4 rfl rfl)
theorem dX48_house_401 : decode cX48_house 401 = .ok (.aload_n 0, 1) := dk_42 (dk_at dksX48_house_17 5 rfl rfl)
theorem dX48_house_402 : decode cX48_house 402 = .ok (.ldc_w 317, 3) := dk_19 1 61 (dk_at dksX48_house_17 6 rfl rfl)
theorem dX48_house_405 : decode cX48_house 405 = .ok (.ldc_w 292, 3) := dk_19 1 36 (dk_at dksX48_house_17 9 rfl rfl)
theorem dX48_house_408 : decode cX48_house 408 = .ok (.invokevirtual 263, 3) := dk_182 1 7 (dk_at dksX48_house_17 12 rfl rfl)
theorem dX48_house_411 : decode cX48_house 411 = .ok (.ifCond .eq 33, 3) := dk_153 0 33 (dk_at dksX48_house_17 15 rfl rfl)
theorem dX48_house_414 : decode cX48_house 414 = .ok (.aload_n 0, 1) := dk_42 (dk_at dksX48_house_17 18 rfl rfl)
theorem dX48_house_415 : decode cX48_house 415 = .ok (.getfield 167, 3) := dk_180 0 167 (dk_at dksX48_house_17 19 rfl rfl)
theorem dX48_house_418 : decode cX48_house 418 = .ok (.ifCond .ge 24, 3) := dk_156 0 24 (dk_at dksX48_house_18 0 rfl rfl)
theorem dX48_house_421 : decode cX48_house 421 = .ok (.aload_n 0, 1) := dk_42 (dk_at dksX48_house_18 3 rfl rfl)
theorem dX48_house_422 : decode cX48_house 422 = .ok (.aload_n 0, 1) := dk_42 (dk_at dksX48_house_18 4 rfl rfl)
theorem dX48_house_423 : decode cX48_house 423 = .ok (.getfield 99, 3) := dk_180 0 99 (dk_at dksX48_house_18 5 rfl rfl)
theorem dX48_house_426 : decode cX48_house 426 = .ok (.iconst 0, 1) := dk_3 (dk_at dksX48_house_18 8 rfl rfl)
theorem dX48_house_427 : decode cX48_house 427 = .ok (.laload, 1) := dk_47 (dk_at dksX48_house_18 9 rfl rfl)
theorem dX48_house_428 : decode cX48_house 428 = .ok (.l2i, 1) := dk_136 (dk_at dksX48_house_18 10 rfl rfl)
theorem dX48_house_429 : decode cX48_house 429 = .ok (.aload_n 0, 1) := dk_42 (dk_at dksX48_house_18 11 rfl rfl)
theorem dX48_house_430 : decode cX48_house 430 = .ok (.getfield 99, 3) := dk_180 0 99 (dk_at dksX48_house_18 12 rfl rfl)
theorem dX48_house_433 : decode cX48_house 433 = .ok (.iconst 1, 1) := dk_4 (dk_at dksX48_house_18 15 rfl rfl)
theorem dX48_house_434 : decode cX48_house 434 = .ok (.laload, 1) := dk_47 (dk_at dksX48_house_18 16 rfl rfl)
theorem dX48_house_435 : decode cX48_house 435 = .ok (.l2i, 1) := dk_136 (dk_at dksX48_house_18 17 rfl rfl)
theorem dX48_house_436 : decode cX48_house 436 = .ok (.invokevirtual 319, 3) := dk_182 1 63 (dk_at dksX48_house_18 18 rfl rfl)
theorem dX48_house_439 : decode cX48_house 439 = .ok (.goto 4, 3) := dk_167 0 4 (dk_at dksX48_house_18 21 rfl rfl)
theorem dX48_house_442 : decode cX48_house 442 = .ok (.lconst 0, 1) := dk_9 (dk_at dksX48_house_19 0 rfl rfl)
theorem dX48_house_443 : decode cX48_house 443 = .ok (.lreturn, 1) := dk_173 (dk_at dksX48_house_19 1 rfl rfl)
theorem dX48_house_444 : decode cX48_house 444 = .ok (.aload_n 0, 1) := dk_42 (dk_at dksX48_house_19 2 rfl rfl)
theorem dX48_house_445 : decode cX48_house 445 = .ok (.ldc_w 321, 3) := dk_19 1 65 (dk_at dksX48_house_19 3 rfl rfl)
theorem dX48_house_448 : decode cX48_house 448 = .ok (.ldc_w 278, 3) := dk_19 1 22 (dk_at dksX48_house_19 6 rfl rfl)
theorem dX48_house_451 : decode cX48_house 451 = .ok (.invokevirtual 263, 3) := dk_182 1 7 (dk_at dksX48_house_19 9 rfl rfl)
theorem dX48_house_454 : decode cX48_house 454 = .ok (.ifCond .eq 57, 3) := dk_153 0 57 (dk_at dksX48_house_19 12 rfl rfl)
theorem dX48_house_457 : decode cX48_house 457 = .ok (.aload_n 0, 1) := dk_42 (dk_at dksX48_house_19 15 rfl rfl)
theorem dX48_house_458 : decode cX48_house 458 = .ok (.getfield 167, 3) := dk_180 0 167 (dk_at dksX48_house_19 16 rfl rfl)
theorem dX48_house_461 : decode cX48_house 461 = .ok (.ifCond .ge 48, 3) := dk_156 0 48 (dk_at dksX48_house_19 19 rfl rfl)
theorem dX48_house_464 : decode cX48_house 464 = .ok (.aload_n 0, 1) := dk_42 (dk_at dksX48_house_19 22 rfl rfl)
theorem dX48_house_465 : decode cX48_house 465 = .ok (.getfield 99, 3) := dk_180 0 99 (dk_at dksX48_house_20 0 rfl rfl)
theorem dX48_house_468 : decode cX48_house 468 = .ok (.iconst 0, 1) := dk_3 (dk_at dksX48_house_20 3 rfl rfl)
theorem dX48_house_469 : decode cX48_house 469 = .ok (.laload, 1) := dk_47 (dk_at dksX48_house_20 4 rfl rfl)
theorem dX48_house_470 : decode cX48_house 470 = .ok (.lconst 0, 1) := dk_9 (dk_at dksX48_house_20 5 rfl rfl)
theorem dX48_house_471 : decode cX48_house 471 = .ok (.lcmp, 1) := dk_148 (dk_at dksX48_house_20 6 rfl rfl)
theorem dX48_house_472 : decode cX48_house 472 = .ok (.ifCond .lt 31, 3) := dk_155 0 31 (dk_at dksX48_house_20 7 rfl rfl)
theorem dX48_house_475 : decode cX48_house 475 = .ok (.aload_n 0, 1) := dk_42 (dk_at dksX48_house_20 10 rfl rfl)
theorem dX48_house_476 : decode cX48_house 476 = .ok (.getfield 99, 3) := dk_180 0 99 (dk_at dksX48_house_20 11 rfl rfl)
theorem dX48_house_479 : decode cX48_house 479 = .ok (.iconst 0, 1) := dk_3 (dk_at dksX48_house_20 14 rfl rfl)
theorem dX48_house_480 : decode cX48_house 480 = .ok (.laload, 1) := dk_47 (dk_at dksX48_house_20 15 rfl rfl)
theorem dX48_house_481 : decode cX48_house 481 = .ok (.ldc2_w 322, 3) := dk_20 1 66 (dk_at dksX48_house_20 16 rfl rfl)
theorem dX48_house_484 : decode cX48_house 484 = .ok (.lcmp, 1) := dk_148 (dk_at dksX48_house_20 19 rfl rfl)
theorem dX48_house_485 : decode cX48_house 485 = .ok (.ifCond .ge 18, 3) := dk_156 0 18 (dk_at dksX48_house_20 20 rfl rfl)
theorem dX48_house_488 : decode cX48_house 488 = .ok (.aload_n 0, 1) := dk_42 (dk_at dksX48_house_20 23 rfl rfl)
theorem dX48_house_489 : decode cX48_house 489 = .ok (.getfield 102, 3) := dk_180 0 102 (dk_at dksX48_house_21 0 rfl rfl)
theorem dX48_house_492 : decode cX48_house 492 = .ok (.aload_n 0, 1) := dk_42 (dk_at dksX48_house_21 3 rfl rfl)
theorem dX48_house_493 : decode cX48_house 493 = .ok (.getfield 99, 3) := dk_180 0 99 (dk_at dksX48_house_21 4 rfl rfl)
theorem dX48_house_496 : decode cX48_house 496 = .ok (.iconst 0, 1) := dk_3 (dk_at dksX48_house_21 7 rfl rfl)
theorem dX48_house_497 : decode cX48_house 497 = .ok (.laload, 1) := dk_47 (dk_at dksX48_house_21 8 rfl rfl)
theorem dX48_house_498 : decode cX48_house 498 = .ok (.l2i, 1) := dk_136 (dk_at dksX48_house_21 9 rfl rfl)
theorem dX48_house_499 : decode cX48_house 499 = .ok (.laload, 1) := dk_47 (dk_at dksX48_house_21 10 rfl rfl)
theorem dX48_house_500 : decode cX48_house 500 = .ok (.goto 10, 3) := dk_167 0 10 (dk_at dksX48_house_21 11 rfl rfl)
theorem dX48_house_503 : decode cX48_house 503 = .ok (.ldc2_w 234, 3) := dk_20 0 234 (dk_at dksX48_house_21 14 rfl rfl)
theorem dX48_house_506 : decode cX48_house 506 = .ok (.goto 4, 3) := dk_167 0 4 (dk_at dksX48_house_21 17 rfl rfl)
theorem dX48_house_509 : decode cX48_house 509 = .ok (.lconst 0, 1) := dk_9 (dk_at dksX48_house_21 20 rfl rfl)
theorem dX48_house_510 : decode cX48_house 510 = .ok (.lreturn, 1) := dk_173 (dk_at dksX48_house_21 21 rfl rfl)
theorem dX48_house_511 : decode cX48_house 511 = .ok (.aload_n 0, 1) := dk_42 (dk_at dksX48_house_21 22 rfl rfl)
theorem dX48_house_512 : decode cX48_house 512 = .ok (.ldc_w 324, 3) := dk_19 1 68 (dk_at dksX48_house_22 0 rfl rfl)
theorem dX48_house_515 : decode cX48_house 515 = .ok (.ldc_w 272, 3) := dk_19 1 16 (dk_at dksX48_house_22 3 rfl rfl)
theorem dX48_house_518 : decode cX48_house 518 = .ok (.invokevirtual 263, 3) := dk_182 1 7 (dk_at dksX48_house_22 6 rfl rfl)
theorem dX48_house_521 : decode cX48_house 521 = .ok (.ifCond .eq 22, 3) := dk_153 0 22 (dk_at dksX48_house_22 9 rfl rfl)
theorem dX48_house_524 : decode cX48_house 524 = .ok (.aload_n 0, 1) := dk_42 (dk_at dksX48_house_22 12 rfl rfl)
theorem dX48_house_525 : decode cX48_house 525 = .ok (.getfield 167, 3) := dk_180 0 167 (dk_at dksX48_house_22 13 rfl rfl)
theorem dX48_house_528 : decode cX48_house 528 = .ok (.ifCond .ge 13, 3) := dk_156 0 13 (dk_at dksX48_house_22 16 rfl rfl)
theorem dX48_house_531 : decode cX48_house 531 = .ok (.aload_n 0, 1) := dk_42 (dk_at dksX48_house_22 19 rfl rfl)
theorem dX48_house_532 : decode cX48_house 532 = .ok (.invokevirtual 326, 3) := dk_182 1 70 (dk_at dksX48_house_22 20 rfl rfl)
theorem dX48_house_535 : decode cX48_house 535 = .ok (.invokestatic 328, 3) := dk_184 1 72 (dk_at dksX48_house_23 0 rfl rfl)
theorem dX48_house_538 : decode cX48_house 538 = .ok (.goto 4, 3) := dk_167 0 4 (dk_at dksX48_house_23 3 rfl rfl)
theorem dX48_house_541 : decode cX48_house 541 = .ok (.lconst 0, 1) := dk_9 (dk_at dksX48_house_23 6 rfl rfl)
theorem dX48_house_542 : decode cX48_house 542 = .ok (.lreturn, 1) := dk_173 (dk_at dksX48_house_23 7 rfl rfl)
theorem dX48_house_543 : decode cX48_house 543 = .ok (.aload_n 0, 1) := dk_42 (dk_at dksX48_house_23 8 rfl rfl)
theorem dX48_house_544 : decode cX48_house 544 = .ok (.invokevirtual 332, 3) := dk_182 1 76 (dk_at dksX48_house_23 9 rfl rfl)
theorem dX48_house_547 : decode cX48_house 547 = .ok (.lreturn, 1) := dk_173 (dk_at dksX48_house_23 12 rfl rfl)
abbrev cX48_isCall : ByteArray := prog_56_method_9_code
def yX48_isCall : MethodName := ⟨RX48, "isCall", "(Ljava/lang/String;Ljava/lang/String;)Z"⟩
def dkwX48_isCall_8 : List UInt8 := [156, 0, 20, 42, 180, 0, 133, 29, 5, 96, 164, 0, 10, 42, 29, 5, 96, 181, 0, 167, 4, 172]
abbrev dktX48_isCall_8 : List UInt8 := dkwX48_isCall_8 ++ []
def dkwX48_isCall_7 : List UInt8 := [153, 0, 7, 2, 167, 0, 7, 21, 4, 5, 96, 181, 0, 167, 132, 4, 1, 167, 255, 103, 42, 180, 0, 167]
abbrev dktX48_isCall_7 : List UInt8 := dkwX48_isCall_7 ++ dktX48_isCall_8
def dkwX48_isCall_6 : List UInt8 := [47, 136, 133, 148, 154, 0, 7, 4, 167, 0, 4, 3, 54, 6, 42, 42, 180, 0, 149, 153, 0, 12, 21, 6]
abbrev dktX48_isCall_6 : List UInt8 := dkwX48_isCall_6 ++ dktX48_isCall_7
def dkwX48_isCall_5 : List UInt8 := [21, 4, 47, 10, 148, 154, 0, 30, 167, 0, 23, 42, 180, 0, 99, 21, 4, 47, 42, 180, 0, 99, 21, 4]
abbrev dktX48_isCall_5 : List UInt8 := dkwX48_isCall_5 ++ dktX48_isCall_6
def dkwX48_isCall_4 : List UInt8 := [21, 5, 16, 98, 160, 0, 30, 42, 180, 0, 99, 21, 4, 47, 9, 148, 153, 0, 38, 42, 180, 0, 99]
abbrev dktX48_isCall_4 : List UInt8 := dkwX48_isCall_4 ++ dktX48_isCall_5
def dkwX48_isCall_3 : List UInt8 := [42, 21, 4, 5, 96, 182, 0, 170, 80, 44, 21, 4, 182, 0, 145, 54, 5, 21, 5, 16, 108, 159, 0, 57]
abbrev dktX48_isCall_3 : List UInt8 := dkwX48_isCall_3 ++ dktX48_isCall_4
def dkwX48_isCall_2 : List UInt8 := [42, 180, 0, 133, 161, 0, 14, 42, 42, 180, 0, 133, 181, 0, 167, 167, 0, 118, 42, 180, 0, 99, 21, 4]
abbrev dktX48_isCall_2 : List UInt8 := dkwX48_isCall_2 ++ dktX48_isCall_3
def dkwX48_isCall_1 : List UInt8 := [182, 0, 139, 62, 3, 54, 4, 21, 4, 29, 162, 0, 153, 42, 180, 0, 167, 156, 0, 146, 21, 4, 5, 96]
abbrev dktX48_isCall_1 : List UInt8 := dkwX48_isCall_1 ++ dktX48_isCall_2
def dkwX48_isCall_0 : List UInt8 := [42, 4, 43, 182, 0, 160, 154, 0, 5, 3, 172, 42, 4, 181, 0, 164, 44, 199, 0, 5, 4, 172, 44]
abbrev dktX48_isCall_0 : List UInt8 := dkwX48_isCall_0 ++ dktX48_isCall_1
theorem dksX48_isCall_0 : cX48_isCall.data.toList.drop 0 = dktX48_isCall_0 := by decide +kernel
theorem dksX48_isCall_1 : cX48_isCall.data.toList.drop 23 = dktX48_isCall_1 := dk_seg dksX48_isCall_0 23 rfl rfl
theorem dksX48_isCall_2 : cX48_isCall.data.toList.drop 47 = dktX48_isCall_2 := dk_seg dksX48_isCall_1 24 rfl rfl
theorem dksX48_isCall_3 : cX48_isCall.data.toList.drop 71 = dktX48_isCall_3 := dk_seg dksX48_isCall_2 24 rfl rfl
theorem dksX48_isCall_4 : cX48_isCall.data.toList.drop 95 = dktX48_isCall_4 := dk_seg dksX48_isCall_3 24 rfl rfl
theorem dksX48_isCall_5 : cX48_isCall.data.toList.drop 118 = dktX48_isCall_5 := dk_seg dksX48_isCall_4 23 rfl rfl
theorem dksX48_isCall_6 : cX48_isCall.data.toList.drop 142 = dktX48_isCall_6 := dk_seg dksX48_isCall_5 24 rfl rfl
theorem dksX48_isCall_7 : cX48_isCall.data.toList.drop 166 = dktX48_isCall_7 := dk_seg dksX48_isCall_6 24 rfl rfl
theorem dksX48_isCall_8 : cX48_isCall.data.toList.drop 190 = dktX48_isCall_8 := dk_seg dksX48_isCall_7 24 rfl rfl
theorem dX48_isCall_0 : decode cX48_isCall 0 = .ok (.aload_n 0, 1) := dk_42 (dk_at dksX48_isCall_0 0 rfl rfl)
theorem dX48_isCall_1 : decode cX48_isCall 1 = .ok (.iconst 1, 1) := dk_4 (dk_at dksX48_isCall_0 1 rfl rfl)
theorem dX48_isCall_2 : decode cX48_isCall 2 = .ok (.aload_n 1, 1) := dk_43 (dk_at dksX48_isCall_0 2 rfl rfl)
theorem dX48_isCall_3 : decode cX48_isCall 3 = .ok (.invokevirtual 160, 3) := dk_182 0 160 (dk_at dksX48_isCall_0 3 rfl rfl)
theorem dX48_isCall_6 : decode cX48_isCall 6 = .ok (.ifCond .ne 5, 3) := dk_154 0 5 (dk_at dksX48_isCall_0 6 rfl rfl)
theorem dX48_isCall_9 : decode cX48_isCall 9 = .ok (.iconst 0, 1) := dk_3 (dk_at dksX48_isCall_0 9 rfl rfl)
theorem dX48_isCall_10 : decode cX48_isCall 10 = .ok (.ireturn, 1) := dk_172 (dk_at dksX48_isCall_0 10 rfl rfl)
theorem dX48_isCall_11 : decode cX48_isCall 11 = .ok (.aload_n 0, 1) := dk_42 (dk_at dksX48_isCall_0 11 rfl rfl)
theorem dX48_isCall_12 : decode cX48_isCall 12 = .ok (.iconst 1, 1) := dk_4 (dk_at dksX48_isCall_0 12 rfl rfl)
theorem dX48_isCall_13 : decode cX48_isCall 13 = .ok (.putfield 164, 3) := dk_181 0 164 (dk_at dksX48_isCall_0 13 rfl rfl)
theorem dX48_isCall_16 : decode cX48_isCall 16 = .ok (.aload_n 2, 1) := dk_44 (dk_at dksX48_isCall_0 16 rfl rfl)
theorem dX48_isCall_17 : decode cX48_isCall 17 = .ok (.ifnonnull 5, 3) := dk_199 0 5 (dk_at dksX48_isCall_0 17 rfl rfl)
theorem dX48_isCall_20 : decode cX48_isCall 20 = .ok (.iconst 1, 1) := dk_4 (dk_at dksX48_isCall_0 20 rfl rfl)
theorem dX48_isCall_21 : decode cX48_isCall 21 = .ok (.ireturn, 1) := dk_172 (dk_at dksX48_isCall_0 21 rfl rfl)
theorem dX48_isCall_22 : decode cX48_isCall 22 = .ok (.aload_n 2, 1) := dk_44 (dk_at dksX48_isCall_0 22 rfl rfl)
theorem dX48_isCall_23 : decode cX48_isCall 23 = .ok (.invokevirtual 139, 3) := dk_182 0 139 (dk_at dksX48_isCall_1 0 rfl rfl)
theorem dX48_isCall_26 : decode cX48_isCall 26 = .ok (.istore_n 3, 1) := dk_62 (dk_at dksX48_isCall_1 3 rfl rfl)
theorem dX48_isCall_27 : decode cX48_isCall 27 = .ok (.iconst 0, 1) := dk_3 (dk_at dksX48_isCall_1 4 rfl rfl)
theorem dX48_isCall_28 : decode cX48_isCall 28 = .ok (.istore 4, 2) := dk_54 4 (dk_at dksX48_isCall_1 5 rfl rfl)
theorem dX48_isCall_30 : decode cX48_isCall 30 = .ok (.iload 4, 2) := dk_21 4 (dk_at dksX48_isCall_1 7 rfl rfl)
theorem dX48_isCall_32 : decode cX48_isCall 32 = .ok (.iload_n 3, 1) := dk_29 (dk_at dksX48_isCall_1 9 rfl rfl)
theorem dX48_isCall_33 : decode cX48_isCall 33 = .ok (.if_icmp .ge 153, 3) := dk_162 0 153 (dk_at dksX48_isCall_1 10 rfl rfl)
theorem dX48_isCall_36 : decode cX48_isCall 36 = .ok (.aload_n 0, 1) := dk_42 (dk_at dksX48_isCall_1 13 rfl rfl)
theorem dX48_isCall_37 : decode cX48_isCall 37 = .ok (.getfield 167, 3) := dk_180 0 167 (dk_at dksX48_isCall_1 14 rfl rfl)
theorem dX48_isCall_40 : decode cX48_isCall 40 = .ok (.ifCond .ge 146, 3) := dk_156 0 146 (dk_at dksX48_isCall_1 17 rfl rfl)
theorem dX48_isCall_43 : decode cX48_isCall 43 = .ok (.iload 4, 2) := dk_21 4 (dk_at dksX48_isCall_1 20 rfl rfl)
theorem dX48_isCall_45 : decode cX48_isCall 45 = .ok (.iconst 2, 1) := dk_5 (dk_at dksX48_isCall_1 22 rfl rfl)
theorem dX48_isCall_46 : decode cX48_isCall 46 = .ok (.iadd, 1) := dk_96 (dk_at dksX48_isCall_1 23 rfl rfl)
theorem dX48_isCall_47 : decode cX48_isCall 47 = .ok (.aload_n 0, 1) := dk_42 (dk_at dksX48_isCall_2 0 rfl rfl)
theorem dX48_isCall_48 : decode cX48_isCall 48 = .ok (.getfield 133, 3) := dk_180 0 133 (dk_at dksX48_isCall_2 1 rfl rfl)
theorem dX48_isCall_51 : decode cX48_isCall 51 = .ok (.if_icmp .lt 14, 3) := dk_161 0 14 (dk_at dksX48_isCall_2 4 rfl rfl)
theorem dX48_isCall_54 : decode cX48_isCall 54 = .ok (.aload_n 0, 1) := dk_42 (dk_at dksX48_isCall_2 7 rfl rfl)
theorem dX48_isCall_55 : decode cX48_isCall 55 = .ok (.aload_n 0, 1) := dk_42 (dk_at dksX48_isCall_2 8 rfl rfl)
theorem dX48_isCall_56 : decode cX48_isCall 56 = .ok (.getfield 133, 3) := dk_180 0 133 (dk_at dksX48_isCall_2 9 rfl rfl)
theorem dX48_isCall_59 : decode cX48_isCall 59 = .ok (.putfield 167, 3) := dk_181 0 167 (dk_at dksX48_isCall_2 12 rfl rfl)
theorem dX48_isCall_62 : decode cX48_isCall 62 = .ok (.goto 118, 3) := dk_167 0 118 (dk_at dksX48_isCall_2 15 rfl rfl)
theorem dX48_isCall_65 : decode cX48_isCall 65 = .ok (.aload_n 0, 1) := dk_42 (dk_at dksX48_isCall_2 18 rfl rfl)
theorem dX48_isCall_66 : decode cX48_isCall 66 = .ok (.getfield 99, 3) := dk_180 0 99 (dk_at dksX48_isCall_2 19 rfl rfl)
theorem dX48_isCall_69 : decode cX48_isCall 69 = .ok (.iload 4, 2) := dk_21 4 (dk_at dksX48_isCall_2 22 rfl rfl)
theorem dX48_isCall_71 : decode cX48_isCall 71 = .ok (.aload_n 0, 1) := dk_42 (dk_at dksX48_isCall_3 0 rfl rfl)
theorem dX48_isCall_72 : decode cX48_isCall 72 = .ok (.iload 4, 2) := dk_21 4 (dk_at dksX48_isCall_3 1 rfl rfl)
theorem dX48_isCall_74 : decode cX48_isCall 74 = .ok (.iconst 2, 1) := dk_5 (dk_at dksX48_isCall_3 3 rfl rfl)
theorem dX48_isCall_75 : decode cX48_isCall 75 = .ok (.iadd, 1) := dk_96 (dk_at dksX48_isCall_3 4 rfl rfl)
theorem dX48_isCall_76 : decode cX48_isCall 76 = .ok (.invokevirtual 170, 3) := dk_182 0 170 (dk_at dksX48_isCall_3 5 rfl rfl)
theorem dX48_isCall_79 : decode cX48_isCall 79 = .ok (.lastore, 1) := dk_80 (dk_at dksX48_isCall_3 8 rfl rfl)
theorem dX48_isCall_80 : decode cX48_isCall 80 = .ok (.aload_n 2, 1) := dk_44 (dk_at dksX48_isCall_3 9 rfl rfl)
theorem dX48_isCall_81 : decode cX48_isCall 81 = .ok (.iload 4, 2) := dk_21 4 (dk_at dksX48_isCall_3 10 rfl rfl)
theorem dX48_isCall_83 : decode cX48_isCall 83 = .ok (.invokevirtual 145, 3) := dk_182 0 145 (dk_at dksX48_isCall_3 12 rfl rfl)
theorem dX48_isCall_86 : decode cX48_isCall 86 = .ok (.istore 5, 2) := dk_54 5 (dk_at dksX48_isCall_3 15 rfl rfl)
theorem dX48_isCall_88 : decode cX48_isCall 88 = .ok (.iload 5, 2) := dk_21 5 (dk_at dksX48_isCall_3 17 rfl rfl)
theorem dX48_isCall_90 : decode cX48_isCall 90 = .ok (.bipush 108, 2) := dk_16 108 (dk_at dksX48_isCall_3 19 rfl rfl)
theorem dX48_isCall_92 : decode cX48_isCall 92 = .ok (.if_icmp .eq 57, 3) := dk_159 0 57 (dk_at dksX48_isCall_3 21 rfl rfl)
theorem dX48_isCall_95 : decode cX48_isCall 95 = .ok (.iload 5, 2) := dk_21 5 (dk_at dksX48_isCall_4 0 rfl rfl)
theorem dX48_isCall_97 : decode cX48_isCall 97 = .ok (.bipush 98, 2) := dk_16 98 (dk_at dksX48_isCall_4 2 rfl rfl)
theorem dX48_isCall_99 : decode cX48_isCall 99 = .ok (.if_icmp .ne 30, 3) := dk_160 0 30 (dk_at dksX48_isCall_4 4 rfl rfl)
theorem dX48_isCall_102 : decode cX48_isCall 102 = .ok (.aload_n 0, 1) := dk_42 (dk_at dksX48_isCall_4 7 rfl rfl)
theorem dX48_isCall_103 : decode cX48_isCall 103 = .ok (.getfield 99, 3) := dk_180 0 99 (dk_at dksX48_isCall_4 8 rfl rfl)
theorem dX48_isCall_106 : decode cX48_isCall 106 = .ok (.iload 4, 2) := dk_21 4 (dk_at dksX48_isCall_4 11 rfl rfl)
theorem dX48_isCall_108 : decode cX48_isCall 108 = .ok (.laload, 1) := dk_47 (dk_at dksX48_isCall_4 13 rfl rfl)
theorem dX48_isCall_109 : decode cX48_isCall 109 = .ok (.lconst 0, 1) := dk_9 (dk_at dksX48_isCall_4 14 rfl rfl)
theorem dX48_isCall_110 : decode cX48_isCall 110 = .ok (.lcmp, 1) := dk_148 (dk_at dksX48_isCall_4 15 rfl rfl)
theorem dX48_isCall_111 : decode cX48_isCall 111 = .ok (.ifCond .eq 38, 3) := dk_153 0 38 (dk_at dksX48_isCall_4 16 rfl rfl)
theorem dX48_isCall_114 : decode cX48_isCall 114 = .ok (.aload_n 0, 1) := dk_42 (dk_at dksX48_isCall_4 19 rfl rfl)
theorem dX48_isCall_115 : decode cX48_isCall 115 = .ok (.getfield 99, 3) := dk_180 0 99 (dk_at dksX48_isCall_4 20 rfl rfl)
theorem dX48_isCall_118 : decode cX48_isCall 118 = .ok (.iload 4, 2) := dk_21 4 (dk_at dksX48_isCall_5 0 rfl rfl)
theorem dX48_isCall_120 : decode cX48_isCall 120 = .ok (.laload, 1) := dk_47 (dk_at dksX48_isCall_5 2 rfl rfl)
theorem dX48_isCall_121 : decode cX48_isCall 121 = .ok (.lconst 1, 1) := dk_10 (dk_at dksX48_isCall_5 3 rfl rfl)
theorem dX48_isCall_122 : decode cX48_isCall 122 = .ok (.lcmp, 1) := dk_148 (dk_at dksX48_isCall_5 4 rfl rfl)
theorem dX48_isCall_123 : decode cX48_isCall 123 = .ok (.ifCond .ne 30, 3) := dk_154 0 30 (dk_at dksX48_isCall_5 5 rfl rfl)
theorem dX48_isCall_126 : decode cX48_isCall 126 = .ok (.goto 23, 3) := dk_167 0 23 (dk_at dksX48_isCall_5 8 rfl rfl)
theorem dX48_isCall_129 : decode cX48_isCall 129 = .ok (.aload_n 0, 1) := dk_42 (dk_at dksX48_isCall_5 11 rfl rfl)
theorem dX48_isCall_130 : decode cX48_isCall 130 = .ok (.getfield 99, 3) := dk_180 0 99 (dk_at dksX48_isCall_5 12 rfl rfl)
theorem dX48_isCall_133 : decode cX48_isCall 133 = .ok (.iload 4, 2) := dk_21 4 (dk_at dksX48_isCall_5 15 rfl rfl)
theorem dX48_isCall_135 : decode cX48_isCall 135 = .ok (.laload, 1) := dk_47 (dk_at dksX48_isCall_5 17 rfl rfl)
theorem dX48_isCall_136 : decode cX48_isCall 136 = .ok (.aload_n 0, 1) := dk_42 (dk_at dksX48_isCall_5 18 rfl rfl)
theorem dX48_isCall_137 : decode cX48_isCall 137 = .ok (.getfield 99, 3) := dk_180 0 99 (dk_at dksX48_isCall_5 19 rfl rfl)
theorem dX48_isCall_140 : decode cX48_isCall 140 = .ok (.iload 4, 2) := dk_21 4 (dk_at dksX48_isCall_5 22 rfl rfl)
theorem dX48_isCall_142 : decode cX48_isCall 142 = .ok (.laload, 1) := dk_47 (dk_at dksX48_isCall_6 0 rfl rfl)
theorem dX48_isCall_143 : decode cX48_isCall 143 = .ok (.l2i, 1) := dk_136 (dk_at dksX48_isCall_6 1 rfl rfl)
theorem dX48_isCall_144 : decode cX48_isCall 144 = .ok (.i2l, 1) := dk_133 (dk_at dksX48_isCall_6 2 rfl rfl)
theorem dX48_isCall_145 : decode cX48_isCall 145 = .ok (.lcmp, 1) := dk_148 (dk_at dksX48_isCall_6 3 rfl rfl)
theorem dX48_isCall_146 : decode cX48_isCall 146 = .ok (.ifCond .ne 7, 3) := dk_154 0 7 (dk_at dksX48_isCall_6 4 rfl rfl)
theorem dX48_isCall_149 : decode cX48_isCall 149 = .ok (.iconst 1, 1) := dk_4 (dk_at dksX48_isCall_6 7 rfl rfl)
theorem dX48_isCall_150 : decode cX48_isCall 150 = .ok (.goto 4, 3) := dk_167 0 4 (dk_at dksX48_isCall_6 8 rfl rfl)
theorem dX48_isCall_153 : decode cX48_isCall 153 = .ok (.iconst 0, 1) := dk_3 (dk_at dksX48_isCall_6 11 rfl rfl)
theorem dX48_isCall_154 : decode cX48_isCall 154 = .ok (.istore 6, 2) := dk_54 6 (dk_at dksX48_isCall_6 12 rfl rfl)
theorem dX48_isCall_156 : decode cX48_isCall 156 = .ok (.aload_n 0, 1) := dk_42 (dk_at dksX48_isCall_6 14 rfl rfl)
theorem dX48_isCall_157 : decode cX48_isCall 157 = .ok (.aload_n 0, 1) := dk_42 (dk_at dksX48_isCall_6 15 rfl rfl)
theorem dX48_isCall_158 : decode cX48_isCall 158 = .ok (.getfield 149, 3) := dk_180 0 149 (dk_at dksX48_isCall_6 16 rfl rfl)
theorem dX48_isCall_161 : decode cX48_isCall 161 = .ok (.ifCond .eq 12, 3) := dk_153 0 12 (dk_at dksX48_isCall_6 19 rfl rfl)
theorem dX48_isCall_164 : decode cX48_isCall 164 = .ok (.iload 6, 2) := dk_21 6 (dk_at dksX48_isCall_6 22 rfl rfl)
theorem dX48_isCall_166 : decode cX48_isCall 166 = .ok (.ifCond .eq 7, 3) := dk_153 0 7 (dk_at dksX48_isCall_7 0 rfl rfl)
theorem dX48_isCall_169 : decode cX48_isCall 169 = .ok (.iconst (-1), 1) := dk_2 (dk_at dksX48_isCall_7 3 rfl rfl)
theorem dX48_isCall_170 : decode cX48_isCall 170 = .ok (.goto 7, 3) := dk_167 0 7 (dk_at dksX48_isCall_7 4 rfl rfl)
theorem dX48_isCall_173 : decode cX48_isCall 173 = .ok (.iload 4, 2) := dk_21 4 (dk_at dksX48_isCall_7 7 rfl rfl)
theorem dX48_isCall_175 : decode cX48_isCall 175 = .ok (.iconst 2, 1) := dk_5 (dk_at dksX48_isCall_7 9 rfl rfl)
theorem dX48_isCall_176 : decode cX48_isCall 176 = .ok (.iadd, 1) := dk_96 (dk_at dksX48_isCall_7 10 rfl rfl)
theorem dX48_isCall_177 : decode cX48_isCall 177 = .ok (.putfield 167, 3) := dk_181 0 167 (dk_at dksX48_isCall_7 11 rfl rfl)
theorem dX48_isCall_180 : decode cX48_isCall 180 = .ok (.iinc 4 1, 3) := dk_132 4 1 (dk_at dksX48_isCall_7 14 rfl rfl)
theorem dX48_isCall_183 : decode cX48_isCall 183 = .ok (.goto (-153), 3) := dk_167 255 103 (dk_at dksX48_isCall_7 17 rfl rfl)
theorem dX48_isCall_186 : decode cX48_isCall 186 = .ok (.aload_n 0, 1) := dk_42 (dk_at dksX48_isCall_7 20 rfl rfl)
theorem dX48_isCall_187 : decode cX48_isCall 187 = .ok (.getfield 167, 3) := dk_180 0 167 (dk_at dksX48_isCall_7 21 rfl rfl)
theorem dX48_isCall_190 : decode cX48_isCall 190 = .ok (.ifCond .ge 20, 3) := dk_156 0 20 (dk_at dksX48_isCall_8 0 rfl rfl)
theorem dX48_isCall_193 : decode cX48_isCall 193 = .ok (.aload_n 0, 1) := dk_42 (dk_at dksX48_isCall_8 3 rfl rfl)
theorem dX48_isCall_194 : decode cX48_isCall 194 = .ok (.getfield 133, 3) := dk_180 0 133 (dk_at dksX48_isCall_8 4 rfl rfl)
theorem dX48_isCall_197 : decode cX48_isCall 197 = .ok (.iload_n 3, 1) := dk_29 (dk_at dksX48_isCall_8 7 rfl rfl)
theorem dX48_isCall_198 : decode cX48_isCall 198 = .ok (.iconst 2, 1) := dk_5 (dk_at dksX48_isCall_8 8 rfl rfl)
theorem dX48_isCall_199 : decode cX48_isCall 199 = .ok (.iadd, 1) := dk_96 (dk_at dksX48_isCall_8 9 rfl rfl)
theorem dX48_isCall_200 : decode cX48_isCall 200 = .ok (.if_icmp .le 10, 3) := dk_164 0 10 (dk_at dksX48_isCall_8 10 rfl rfl)
theorem dX48_isCall_203 : decode cX48_isCall 203 = .ok (.aload_n 0, 1) := dk_42 (dk_at dksX48_isCall_8 13 rfl rfl)
theorem dX48_isCall_204 : decode cX48_isCall 204 = .ok (.iload_n 3, 1) := dk_29 (dk_at dksX48_isCall_8 14 rfl rfl)
theorem dX48_isCall_205 : decode cX48_isCall 205 = .ok (.iconst 2, 1) := dk_5 (dk_at dksX48_isCall_8 15 rfl rfl)
theorem dX48_isCall_206 : decode cX48_isCall 206 = .ok (.iadd, 1) := dk_96 (dk_at dksX48_isCall_8 16 rfl rfl)
theorem dX48_isCall_207 : decode cX48_isCall 207 = .ok (.putfield 167, 3) := dk_181 0 167 (dk_at dksX48_isCall_8 17 rfl rfl)
theorem dX48_isCall_210 : decode cX48_isCall 210 = .ok (.iconst 1, 1) := dk_4 (dk_at dksX48_isCall_8 20 rfl rfl)
theorem dX48_isCall_211 : decode cX48_isCall 211 = .ok (.ireturn, 1) := dk_172 (dk_at dksX48_isCall_8 21 rfl rfl)
abbrev cX48_numberOf : ByteArray := prog_56_method_8_code
def yX48_numberOf : MethodName := ⟨RX48, "numberOf", "(I)J"⟩
def dkwX48_numberOf_10 : List UInt8 := [167, 0, 5, 22, 7, 173]
abbrev dktX48_numberOf_10 : List UInt8 := dkwX48_numberOf_10 ++ []
def dkwX48_numberOf_9 : List UInt8 := [153, 0, 14, 42, 180, 0, 84, 22, 7, 136, 47, 167, 0, 4, 9, 173, 29, 153, 0, 9, 22, 7, 117]
abbrev dktX48_numberOf_9 : List UInt8 := dkwX48_numberOf_9 ++ dktX48_numberOf_10
def dkwX48_numberOf_8 : List UInt8 := [42, 22, 7, 42, 180, 0, 157, 133, 148, 156, 0, 7, 4, 167, 0, 4, 3, 181, 0, 149, 42, 180, 0, 149]
abbrev dktX48_numberOf_8 : List UInt8 := dkwX48_numberOf_8 ++ dktX48_numberOf_9
def dkwX48_numberOf_7 : List UInt8 := [20, 0, 155, 101, 55, 7, 132, 9, 1, 167, 255, 181, 21, 4, 153, 0, 50, 42, 180, 0, 149, 153, 0, 43]
abbrev dktX48_numberOf_7 : List UInt8 := dkwX48_numberOf_7 ++ dktX48_numberOf_8
def dkwX48_numberOf_6 : List UInt8 := [167, 0, 4, 3, 181, 0, 149, 20, 0, 153, 22, 7, 105, 42, 180, 0, 76, 21, 9, 51, 133, 97]
abbrev dktX48_numberOf_6 : List UInt8 := dkwX48_numberOf_6 ++ dktX48_numberOf_7
def dkwX48_numberOf_5 : List UInt8 := [180, 0, 76, 21, 9, 51, 16, 48, 161, 0, 19, 42, 180, 0, 76, 21, 9, 51, 16, 57, 163, 0, 7, 4]
abbrev dktX48_numberOf_5 : List UInt8 := dkwX48_numberOf_5 ++ dktX48_numberOf_6
def dkwX48_numberOf_4 : List UInt8 := [21, 5, 54, 9, 21, 9, 42, 180, 0, 96, 27, 46, 162, 0, 70, 42, 180, 0, 149, 153, 0, 63, 42, 42]
abbrev dktX48_numberOf_4 : List UInt8 := dkwX48_numberOf_4 ++ dktX48_numberOf_5
def dkwX48_numberOf_3 : List UInt8 := [21, 6, 4, 161, 0, 14, 21, 6, 16, 18, 163, 0, 7, 4, 167, 0, 4, 3, 181, 0, 149, 9, 55, 7]
abbrev dktX48_numberOf_3 : List UInt8 := dkwX48_numberOf_3 ++ dktX48_numberOf_4
def dkwX48_numberOf_2 : List UInt8 := [153, 0, 9, 28, 4, 96, 167, 0, 4, 28, 54, 5, 42, 180, 0, 96, 27, 46, 21, 5, 100, 54, 6, 42]
abbrev dktX48_numberOf_2 : List UInt8 := dkwX48_numberOf_2 ++ dktX48_numberOf_3
def dkwX48_numberOf_1 : List UInt8 := [42, 180, 0, 76, 28, 51, 16, 64, 160, 0, 7, 4, 167, 0, 4, 3, 54, 4, 29, 154, 0, 8, 21, 4]
abbrev dktX48_numberOf_1 : List UInt8 := dkwX48_numberOf_1 ++ dktX48_numberOf_2
def dkwX48_numberOf_0 : List UInt8 := [42, 180, 0, 92, 27, 46, 61, 42, 180, 0, 76, 28, 51, 16, 45, 160, 0, 7, 4, 167, 0, 4, 3, 62]
abbrev dktX48_numberOf_0 : List UInt8 := dkwX48_numberOf_0 ++ dktX48_numberOf_1
theorem dksX48_numberOf_0 : cX48_numberOf.data.toList.drop 0 = dktX48_numberOf_0 := by decide +kernel
theorem dksX48_numberOf_1 : cX48_numberOf.data.toList.drop 24 = dktX48_numberOf_1 := dk_seg dksX48_numberOf_0 24 rfl rfl
theorem dksX48_numberOf_2 : cX48_numberOf.data.toList.drop 48 = dktX48_numberOf_2 := dk_seg dksX48_numberOf_1 24 rfl rfl
theorem dksX48_numberOf_3 : cX48_numberOf.data.toList.drop 72 = dktX48_numberOf_3 := dk_seg dksX48_numberOf_2 24 rfl rfl
theorem dksX48_numberOf_4 : cX48_numberOf.data.toList.drop 96 = dktX48_numberOf_4 := dk_seg dksX48_numberOf_3 24 rfl rfl
theorem dksX48_numberOf_5 : cX48_numberOf.data.toList.drop 120 = dktX48_numberOf_5 := dk_seg dksX48_numberOf_4 24 rfl rfl
theorem dksX48_numberOf_6 : cX48_numberOf.data.toList.drop 144 = dktX48_numberOf_6 := dk_seg dksX48_numberOf_5 24 rfl rfl
theorem dksX48_numberOf_7 : cX48_numberOf.data.toList.drop 166 = dktX48_numberOf_7 := dk_seg dksX48_numberOf_6 22 rfl rfl
theorem dksX48_numberOf_8 : cX48_numberOf.data.toList.drop 190 = dktX48_numberOf_8 := dk_seg dksX48_numberOf_7 24 rfl rfl
theorem dksX48_numberOf_9 : cX48_numberOf.data.toList.drop 214 = dktX48_numberOf_9 := dk_seg dksX48_numberOf_8 24 rfl rfl
theorem dksX48_numberOf_10 : cX48_numberOf.data.toList.drop 237 = dktX48_numberOf_10 := dk_seg dksX48_numberOf_9 23 rfl rfl
theorem dX48_numberOf_0 : decode cX48_numberOf 0 = .ok (.aload_n 0, 1) := dk_42 (dk_at dksX48_numberOf_0 0 rfl rfl)
theorem dX48_numberOf_1 : decode cX48_numberOf 1 = .ok (.getfield 92, 3) := dk_180 0 92 (dk_at dksX48_numberOf_0 1 rfl rfl)
theorem dX48_numberOf_4 : decode cX48_numberOf 4 = .ok (.iload_n 1, 1) := dk_27 (dk_at dksX48_numberOf_0 4 rfl rfl)
theorem dX48_numberOf_5 : decode cX48_numberOf 5 = .ok (.iaload, 1) := dk_46 (dk_at dksX48_numberOf_0 5 rfl rfl)
theorem dX48_numberOf_6 : decode cX48_numberOf 6 = .ok (.istore_n 2, 1) := dk_61 (dk_at dksX48_numberOf_0 6 rfl rfl)
theorem dX48_numberOf_7 : decode cX48_numberOf 7 = .ok (.aload_n 0, 1) := dk_42 (dk_at dksX48_numberOf_0 7 rfl rfl)
theorem dX48_numberOf_8 : decode cX48_numberOf 8 = .ok (.getfield 76, 3) := dk_180 0 76 (dk_at dksX48_numberOf_0 8 rfl rfl)
theorem dX48_numberOf_11 : decode cX48_numberOf 11 = .ok (.iload_n 2, 1) := dk_28 (dk_at dksX48_numberOf_0 11 rfl rfl)
theorem dX48_numberOf_12 : decode cX48_numberOf 12 = .ok (.baload, 1) := dk_51 (dk_at dksX48_numberOf_0 12 rfl rfl)
theorem dX48_numberOf_13 : decode cX48_numberOf 13 = .ok (.bipush 45, 2) := dk_16 45 (dk_at dksX48_numberOf_0 13 rfl rfl)
theorem dX48_numberOf_15 : decode cX48_numberOf 15 = .ok (.if_icmp .ne 7, 3) := dk_160 0 7 (dk_at dksX48_numberOf_0 15 rfl rfl)
theorem dX48_numberOf_18 : decode cX48_numberOf 18 = .ok (.iconst 1, 1) := dk_4 (dk_at dksX48_numberOf_0 18 rfl rfl)
theorem dX48_numberOf_19 : decode cX48_numberOf 19 = .ok (.goto 4, 3) := dk_167 0 4 (dk_at dksX48_numberOf_0 19 rfl rfl)
theorem dX48_numberOf_22 : decode cX48_numberOf 22 = .ok (.iconst 0, 1) := dk_3 (dk_at dksX48_numberOf_0 22 rfl rfl)
theorem dX48_numberOf_23 : decode cX48_numberOf 23 = .ok (.istore_n 3, 1) := dk_62 (dk_at dksX48_numberOf_0 23 rfl rfl)
theorem dX48_numberOf_24 : decode cX48_numberOf 24 = .ok (.aload_n 0, 1) := dk_42 (dk_at dksX48_numberOf_1 0 rfl rfl)
theorem dX48_numberOf_25 : decode cX48_numberOf 25 = .ok (.getfield 76, 3) := dk_180 0 76 (dk_at dksX48_numberOf_1 1 rfl rfl)
theorem dX48_numberOf_28 : decode cX48_numberOf 28 = .ok (.iload_n 2, 1) := dk_28 (dk_at dksX48_numberOf_1 4 rfl rfl)
theorem dX48_numberOf_29 : decode cX48_numberOf 29 = .ok (.baload, 1) := dk_51 (dk_at dksX48_numberOf_1 5 rfl rfl)
theorem dX48_numberOf_30 : decode cX48_numberOf 30 = .ok (.bipush 64, 2) := dk_16 64 (dk_at dksX48_numberOf_1 6 rfl rfl)
theorem dX48_numberOf_32 : decode cX48_numberOf 32 = .ok (.if_icmp .ne 7, 3) := dk_160 0 7 (dk_at dksX48_numberOf_1 8 rfl rfl)
theorem dX48_numberOf_35 : decode cX48_numberOf 35 = .ok (.iconst 1, 1) := dk_4 (dk_at dksX48_numberOf_1 11 rfl rfl)
theorem dX48_numberOf_36 : decode cX48_numberOf 36 = .ok (.goto 4, 3) := dk_167 0 4 (dk_at dksX48_numberOf_1 12 rfl rfl)
theorem dX48_numberOf_39 : decode cX48_numberOf 39 = .ok (.iconst 0, 1) := dk_3 (dk_at dksX48_numberOf_1 15 rfl rfl)
theorem dX48_numberOf_40 : decode cX48_numberOf 40 = .ok (.istore 4, 2) := dk_54 4 (dk_at dksX48_numberOf_1 16 rfl rfl)
theorem dX48_numberOf_42 : decode cX48_numberOf 42 = .ok (.iload_n 3, 1) := dk_29 (dk_at dksX48_numberOf_1 18 rfl rfl)
theorem dX48_numberOf_43 : decode cX48_numberOf 43 = .ok (.ifCond .ne 8, 3) := dk_154 0 8 (dk_at dksX48_numberOf_1 19 rfl rfl)
theorem dX48_numberOf_46 : decode cX48_numberOf 46 = .ok (.iload 4, 2) := dk_21 4 (dk_at dksX48_numberOf_1 22 rfl rfl)
theorem dX48_numberOf_48 : decode cX48_numberOf 48 = .ok (.ifCond .eq 9, 3) := dk_153 0 9 (dk_at dksX48_numberOf_2 0 rfl rfl)
theorem dX48_numberOf_51 : decode cX48_numberOf 51 = .ok (.iload_n 2, 1) := dk_28 (dk_at dksX48_numberOf_2 3 rfl rfl)
theorem dX48_numberOf_52 : decode cX48_numberOf 52 = .ok (.iconst 1, 1) := dk_4 (dk_at dksX48_numberOf_2 4 rfl rfl)
theorem dX48_numberOf_53 : decode cX48_numberOf 53 = .ok (.iadd, 1) := dk_96 (dk_at dksX48_numberOf_2 5 rfl rfl)
theorem dX48_numberOf_54 : decode cX48_numberOf 54 = .ok (.goto 4, 3) := dk_167 0 4 (dk_at dksX48_numberOf_2 6 rfl rfl)
theorem dX48_numberOf_57 : decode cX48_numberOf 57 = .ok (.iload_n 2, 1) := dk_28 (dk_at dksX48_numberOf_2 9 rfl rfl)
theorem dX48_numberOf_58 : decode cX48_numberOf 58 = .ok (.istore 5, 2) := dk_54 5 (dk_at dksX48_numberOf_2 10 rfl rfl)
theorem dX48_numberOf_60 : decode cX48_numberOf 60 = .ok (.aload_n 0, 1) := dk_42 (dk_at dksX48_numberOf_2 12 rfl rfl)
theorem dX48_numberOf_61 : decode cX48_numberOf 61 = .ok (.getfield 96, 3) := dk_180 0 96 (dk_at dksX48_numberOf_2 13 rfl rfl)
theorem dX48_numberOf_64 : decode cX48_numberOf 64 = .ok (.iload_n 1, 1) := dk_27 (dk_at dksX48_numberOf_2 16 rfl rfl)
theorem dX48_numberOf_65 : decode cX48_numberOf 65 = .ok (.iaload, 1) := dk_46 (dk_at dksX48_numberOf_2 17 rfl rfl)
theorem dX48_numberOf_66 : decode cX48_numberOf 66 = .ok (.iload 5, 2) := dk_21 5 (dk_at dksX48_numberOf_2 18 rfl rfl)
theorem dX48_numberOf_68 : decode cX48_numberOf 68 = .ok (.isub, 1) := dk_100 (dk_at dksX48_numberOf_2 20 rfl rfl)
theorem dX48_numberOf_69 : decode cX48_numberOf 69 = .ok (.istore 6, 2) := dk_54 6 (dk_at dksX48_numberOf_2 21 rfl rfl)
theorem dX48_numberOf_71 : decode cX48_numberOf 71 = .ok (.aload_n 0, 1) := dk_42 (dk_at dksX48_numberOf_2 23 rfl rfl)
theorem dX48_numberOf_72 : decode cX48_numberOf 72 = .ok (.iload 6, 2) := dk_21 6 (dk_at dksX48_numberOf_3 0 rfl rfl)
theorem dX48_numberOf_74 : decode cX48_numberOf 74 = .ok (.iconst 1, 1) := dk_4 (dk_at dksX48_numberOf_3 2 rfl rfl)
theorem dX48_numberOf_75 : decode cX48_numberOf 75 = .ok (.if_icmp .lt 14, 3) := dk_161 0 14 (dk_at dksX48_numberOf_3 3 rfl rfl)
theorem dX48_numberOf_78 : decode cX48_numberOf 78 = .ok (.iload 6, 2) := dk_21 6 (dk_at dksX48_numberOf_3 6 rfl rfl)
theorem dX48_numberOf_80 : decode cX48_numberOf 80 = .ok (.bipush 18, 2) := dk_16 18 (dk_at dksX48_numberOf_3 8 rfl rfl)
theorem dX48_numberOf_82 : decode cX48_numberOf 82 = .ok (.if_icmp .gt 7, 3) := dk_163 0 7 (dk_at dksX48_numberOf_3 10 rfl rfl)
theorem dX48_numberOf_85 : decode cX48_numberOf 85 = .ok (.iconst 1, 1) := dk_4 (dk_at dksX48_numberOf_3 13 rfl rfl)
theorem dX48_numberOf_86 : decode cX48_numberOf 86 = .ok (.goto 4, 3) := dk_167 0 4 (dk_at dksX48_numberOf_3 14 rfl rfl)
theorem dX48_numberOf_89 : decode cX48_numberOf 89 = .ok (.iconst 0, 1) := dk_3 (dk_at dksX48_numberOf_3 17 rfl rfl)
theorem dX48_numberOf_90 : decode cX48_numberOf 90 = .ok (.putfield 149, 3) := dk_181 0 149 (dk_at dksX48_numberOf_3 18 rfl rfl)
theorem dX48_numberOf_93 : decode cX48_numberOf 93 = .ok (.lconst 0, 1) := dk_9 (dk_at dksX48_numberOf_3 21 rfl rfl)
theorem dX48_numberOf_94 : decode cX48_numberOf 94 = .ok (.lstore 7, 2) := dk_55 7 (dk_at dksX48_numberOf_3 22 rfl rfl)
theorem dX48_numberOf_96 : decode cX48_numberOf 96 = .ok (.iload 5, 2) := dk_21 5 (dk_at dksX48_numberOf_4 0 rfl rfl)
theorem dX48_numberOf_98 : decode cX48_numberOf 98 = .ok (.istore 9, 2) := dk_54 9 (dk_at dksX48_numberOf_4 2 rfl rfl)
theorem dX48_numberOf_100 : decode cX48_numberOf 100 = .ok (.iload 9, 2) := dk_21 9 (dk_at dksX48_numberOf_4 4 rfl rfl)
theorem dX48_numberOf_102 : decode cX48_numberOf 102 = .ok (.aload_n 0, 1) := dk_42 (dk_at dksX48_numberOf_4 6 rfl rfl)
theorem dX48_numberOf_103 : decode cX48_numberOf 103 = .ok (.getfield 96, 3) := dk_180 0 96 (dk_at dksX48_numberOf_4 7 rfl rfl)
theorem dX48_numberOf_106 : decode cX48_numberOf 106 = .ok (.iload_n 1, 1) := dk_27 (dk_at dksX48_numberOf_4 10 rfl rfl)
theorem dX48_numberOf_107 : decode cX48_numberOf 107 = .ok (.iaload, 1) := dk_46 (dk_at dksX48_numberOf_4 11 rfl rfl)
theorem dX48_numberOf_108 : decode cX48_numberOf 108 = .ok (.if_icmp .ge 70, 3) := dk_162 0 70 (dk_at dksX48_numberOf_4 12 rfl rfl)
theorem dX48_numberOf_111 : decode cX48_numberOf 111 = .ok (.aload_n 0, 1) := dk_42 (dk_at dksX48_numberOf_4 15 rfl rfl)
theorem dX48_numberOf_112 : decode cX48_numberOf 112 = .ok (.getfield 149, 3) := dk_180 0 149 (dk_at dksX48_numberOf_4 16 rfl rfl)
theorem dX48_numberOf_115 : decode cX48_numberOf 115 = .ok (.ifCond .eq 63, 3) := dk_153 0 63 (dk_at dksX48_numberOf_4 19 rfl rfl)
theorem dX48_numberOf_118 : decode cX48_numberOf 118 = .ok (.aload_n 0, 1) := dk_42 (dk_at dksX48_numberOf_4 22 rfl rfl)
theorem dX48_numberOf_119 : decode cX48_numberOf 119 = .ok (.aload_n 0, 1) := dk_42 (dk_at dksX48_numberOf_4 23 rfl rfl)
theorem dX48_numberOf_120 : decode cX48_numberOf 120 = .ok (.getfield 76, 3) := dk_180 0 76 (dk_at dksX48_numberOf_5 0 rfl rfl)
theorem dX48_numberOf_123 : decode cX48_numberOf 123 = .ok (.iload 9, 2) := dk_21 9 (dk_at dksX48_numberOf_5 3 rfl rfl)
theorem dX48_numberOf_125 : decode cX48_numberOf 125 = .ok (.baload, 1) := dk_51 (dk_at dksX48_numberOf_5 5 rfl rfl)
theorem dX48_numberOf_126 : decode cX48_numberOf 126 = .ok (.bipush 48, 2) := dk_16 48 (dk_at dksX48_numberOf_5 6 rfl rfl)
theorem dX48_numberOf_128 : decode cX48_numberOf 128 = .ok (.if_icmp .lt 19, 3) := dk_161 0 19 (dk_at dksX48_numberOf_5 8 rfl rfl)
theorem dX48_numberOf_131 : decode cX48_numberOf 131 = .ok (.aload_n 0, 1) := dk_42 (dk_at dksX48_numberOf_5 11 rfl rfl)
theorem dX48_numberOf_132 : decode cX48_numberOf 132 = .ok (.getfield 76, 3) := dk_180 0 76 (dk_at dksX48_numberOf_5 12 rfl rfl)
theorem dX48_numberOf_135 : decode cX48_numberOf 135 = .ok (.iload 9, 2) := dk_21 9 (dk_at dksX48_numberOf_5 15 rfl rfl)
theorem dX48_numberOf_137 : decode cX48_numberOf 137 = .ok (.baload, 1) := dk_51 (dk_at dksX48_numberOf_5 17 rfl rfl)
theorem dX48_numberOf_138 : decode cX48_numberOf 138 = .ok (.bipush 57, 2) := dk_16 57 (dk_at dksX48_numberOf_5 18 rfl rfl)
theorem dX48_numberOf_140 : decode cX48_numberOf 140 = .ok (.if_icmp .gt 7, 3) := dk_163 0 7 (dk_at dksX48_numberOf_5 20 rfl rfl)
theorem dX48_numberOf_143 : decode cX48_numberOf 143 = .ok (.iconst 1, 1) := dk_4 (dk_at dksX48_numberOf_5 23 rfl rfl)
theorem dX48_numberOf_144 : decode cX48_numberOf 144 = .ok (.goto 4, 3) := dk_167 0 4 (dk_at dksX48_numberOf_6 0 rfl rfl)
theorem dX48_numberOf_147 : decode cX48_numberOf 147 = .ok (.iconst 0, 1) := dk_3 (dk_at dksX48_numberOf_6 3 rfl rfl)
theorem dX48_numberOf_148 : decode cX48_numberOf 148 = .ok (.putfield 149, 3) := dk_181 0 149 (dk_at dksX48_numberOf_6 4 rfl rfl)
theorem dX48_numberOf_151 : decode cX48_numberOf 151 = .ok (.ldc2_w 153, 3) := dk_20 0 153 (dk_at dksX48_numberOf_6 7 rfl rfl)
theorem dX48_numberOf_154 : decode cX48_numberOf 154 = .ok (.lload 7, 2) := dk_22 7 (dk_at dksX48_numberOf_6 10 rfl rfl)
theorem dX48_numberOf_156 : decode cX48_numberOf 156 = .ok (.lmul, 1) := dk_105 (dk_at dksX48_numberOf_6 12 rfl rfl)
theorem dX48_numberOf_157 : decode cX48_numberOf 157 = .ok (.aload_n 0, 1) := dk_42 (dk_at dksX48_numberOf_6 13 rfl rfl)
theorem dX48_numberOf_158 : decode cX48_numberOf 158 = .ok (.getfield 76, 3) := dk_180 0 76 (dk_at dksX48_numberOf_6 14 rfl rfl)
theorem dX48_numberOf_161 : decode cX48_numberOf 161 = .ok (.iload 9, 2) := dk_21 9 (dk_at dksX48_numberOf_6 17 rfl rfl)
theorem dX48_numberOf_163 : decode cX48_numberOf 163 = .ok (.baload, 1) := dk_51 (dk_at dksX48_numberOf_6 19 rfl rfl)
theorem dX48_numberOf_164 : decode cX48_numberOf 164 = .ok (.i2l, 1) := dk_133 (dk_at dksX48_numberOf_6 20 rfl rfl)
theorem dX48_numberOf_165 : decode cX48_numberOf 165 = .ok (.ladd, 1) := dk_97 (dk_at dksX48_numberOf_6 21 rfl rfl)
theorem dX48_numberOf_166 : decode cX48_numberOf 166 = .ok (.ldc2_w 155, 3) := dk_20 0 155 (dk_at dksX48_numberOf_7 0 rfl rfl)
theorem dX48_numberOf_169 : decode cX48_numberOf 169 = .ok (.lsub, 1) := dk_101 (dk_at dksX48_numberOf_7 3 rfl rfl)
theorem dX48_numberOf_170 : decode cX48_numberOf 170 = .ok (.lstore 7, 2) := dk_55 7 (dk_at dksX48_numberOf_7 4 rfl rfl)
theorem dX48_numberOf_172 : decode cX48_numberOf 172 = .ok (.iinc 9 1, 3) := dk_132 9 1 (dk_at dksX48_numberOf_7 6 rfl rfl)
theorem dX48_numberOf_175 : decode cX48_numberOf 175 = .ok (.goto (-75), 3) := dk_167 255 181 (dk_at dksX48_numberOf_7 9 rfl rfl)
theorem dX48_numberOf_178 : decode cX48_numberOf 178 = .ok (.iload 4, 2) := dk_21 4 (dk_at dksX48_numberOf_7 12 rfl rfl)
theorem dX48_numberOf_180 : decode cX48_numberOf 180 = .ok (.ifCond .eq 50, 3) := dk_153 0 50 (dk_at dksX48_numberOf_7 14 rfl rfl)
theorem dX48_numberOf_183 : decode cX48_numberOf 183 = .ok (.aload_n 0, 1) := dk_42 (dk_at dksX48_numberOf_7 17 rfl rfl)
theorem dX48_numberOf_184 : decode cX48_numberOf 184 = .ok (.getfield 149, 3) := dk_180 0 149 (dk_at dksX48_numberOf_7 18 rfl rfl)
theorem dX48_numberOf_187 : decode cX48_numberOf 187 = .ok (.ifCond .eq 43, 3) := dk_153 0 43 (dk_at dksX48_numberOf_7 21 rfl rfl)
theorem dX48_numberOf_190 : decode cX48_numberOf 190 = .ok (.aload_n 0, 1) := dk_42 (dk_at dksX48_numberOf_8 0 rfl rfl)
theorem dX48_numberOf_191 : decode cX48_numberOf 191 = .ok (.lload 7, 2) := dk_22 7 (dk_at dksX48_numberOf_8 1 rfl rfl)
theorem dX48_numberOf_193 : decode cX48_numberOf 193 = .ok (.aload_n 0, 1) := dk_42 (dk_at dksX48_numberOf_8 3 rfl rfl)
theorem dX48_numberOf_194 : decode cX48_numberOf 194 = .ok (.getfield 157, 3) := dk_180 0 157 (dk_at dksX48_numberOf_8 4 rfl rfl)
theorem dX48_numberOf_197 : decode cX48_numberOf 197 = .ok (.i2l, 1) := dk_133 (dk_at dksX48_numberOf_8 7 rfl rfl)
theorem dX48_numberOf_198 : decode cX48_numberOf 198 = .ok (.lcmp, 1) := dk_148 (dk_at dksX48_numberOf_8 8 rfl rfl)
theorem dX48_numberOf_199 : decode cX48_numberOf 199 = .ok (.ifCond .ge 7, 3) := dk_156 0 7 (dk_at dksX48_numberOf_8 9 rfl rfl)
theorem dX48_numberOf_202 : decode cX48_numberOf 202 = .ok (.iconst 1, 1) := dk_4 (dk_at dksX48_numberOf_8 12 rfl rfl)
theorem dX48_numberOf_203 : decode cX48_numberOf 203 = .ok (.goto 4, 3) := dk_167 0 4 (dk_at dksX48_numberOf_8 13 rfl rfl)
theorem dX48_numberOf_206 : decode cX48_numberOf 206 = .ok (.iconst 0, 1) := dk_3 (dk_at dksX48_numberOf_8 16 rfl rfl)
theorem dX48_numberOf_207 : decode cX48_numberOf 207 = .ok (.putfield 149, 3) := dk_181 0 149 (dk_at dksX48_numberOf_8 17 rfl rfl)
theorem dX48_numberOf_210 : decode cX48_numberOf 210 = .ok (.aload_n 0, 1) := dk_42 (dk_at dksX48_numberOf_8 20 rfl rfl)
theorem dX48_numberOf_211 : decode cX48_numberOf 211 = .ok (.getfield 149, 3) := dk_180 0 149 (dk_at dksX48_numberOf_8 21 rfl rfl)
theorem dX48_numberOf_214 : decode cX48_numberOf 214 = .ok (.ifCond .eq 14, 3) := dk_153 0 14 (dk_at dksX48_numberOf_9 0 rfl rfl)
theorem dX48_numberOf_217 : decode cX48_numberOf 217 = .ok (.aload_n 0, 1) := dk_42 (dk_at dksX48_numberOf_9 3 rfl rfl)
theorem dX48_numberOf_218 : decode cX48_numberOf 218 = .ok (.getfield 84, 3) := dk_180 0 84 (dk_at dksX48_numberOf_9 4 rfl rfl)
theorem dX48_numberOf_221 : decode cX48_numberOf 221 = .ok (.lload 7, 2) := dk_22 7 (dk_at dksX48_numberOf_9 7 rfl rfl)
theorem dX48_numberOf_223 : decode cX48_numberOf 223 = .ok (.l2i, 1) := dk_136 (dk_at dksX48_numberOf_9 9 rfl rfl)
theorem dX48_numberOf_224 : decode cX48_numberOf 224 = .ok (.laload, 1) := dk_47 (dk_at dksX48_numberOf_9 10 rfl rfl)
theorem dX48_numberOf_225 : decode cX48_numberOf 225 = .ok (.goto 4, 3) := dk_167 0 4 (dk_at dksX48_numberOf_9 11 rfl rfl)
theorem dX48_numberOf_228 : decode cX48_numberOf 228 = .ok (.lconst 0, 1) := dk_9 (dk_at dksX48_numberOf_9 14 rfl rfl)
theorem dX48_numberOf_229 : decode cX48_numberOf 229 = .ok (.lreturn, 1) := dk_173 (dk_at dksX48_numberOf_9 15 rfl rfl)
theorem dX48_numberOf_230 : decode cX48_numberOf 230 = .ok (.iload_n 3, 1) := dk_29 (dk_at dksX48_numberOf_9 16 rfl rfl)
theorem dX48_numberOf_231 : decode cX48_numberOf 231 = .ok (.ifCond .eq 9, 3) := dk_153 0 9 (dk_at dksX48_numberOf_9 17 rfl rfl)
theorem dX48_numberOf_234 : decode cX48_numberOf 234 = .ok (.lload 7, 2) := dk_22 7 (dk_at dksX48_numberOf_9 20 rfl rfl)
theorem dX48_numberOf_236 : decode cX48_numberOf 236 = .ok (.lneg, 1) := dk_117 (dk_at dksX48_numberOf_9 22 rfl rfl)
theorem dX48_numberOf_237 : decode cX48_numberOf 237 = .ok (.goto 5, 3) := dk_167 0 5 (dk_at dksX48_numberOf_10 0 rfl rfl)
theorem dX48_numberOf_240 : decode cX48_numberOf 240 = .ok (.lload 7, 2) := dk_22 7 (dk_at dksX48_numberOf_10 3 rfl rfl)
theorem dX48_numberOf_242 : decode cX48_numberOf 242 = .ok (.lreturn, 1) := dk_173 (dk_at dksX48_numberOf_10 5 rfl rfl)
abbrev cX48_bring : ByteArray := prog_56_method_29_code
def yX48_bring : MethodName := ⟨RX48, "bring", "(IIIJI)J"⟩
def dkwX48_bring_6 : List UInt8 := [180, 0, 102, 28, 47, 182, 1, 97, 54, 14, 21, 13, 133, 173]
abbrev dktX48_bring_6 : List UInt8 := dkwX48_bring_6 ++ []
def dkwX48_bring_5 : List UInt8 := [21, 13, 155, 0, 32, 42, 180, 0, 102, 28, 92, 47, 21, 12, 133, 97, 80, 42, 180, 0, 21, 3, 28, 42]
abbrev dktX48_bring_5 : List UInt8 := dkwX48_bring_5 ++ dktX48_bring_6
def dkwX48_bring_4 : List UInt8 := [180, 0, 10, 29, 28, 22, 10, 21, 12, 133, 97, 20, 0, 234, 22, 4, 21, 6, 182, 1, 93, 54, 13]
abbrev dktX48_bring_4 : List UInt8 := dkwX48_bring_4 ++ dktX48_bring_5
def dkwX48_bring_3 : List UInt8 := [22, 10, 9, 148, 156, 0, 7, 20, 0, 234, 173, 42, 180, 0, 35, 21, 7, 182, 1, 90, 54, 12, 42]
abbrev dktX48_bring_3 : List UInt8 := dkwX48_bring_3 ++ dktX48_bring_4
def dkwX48_bring_2 : List UInt8 := [22, 8, 20, 1, 84, 148, 158, 0, 9, 19, 1, 86, 167, 0, 6, 22, 8, 136, 182, 1, 87, 55, 10]
abbrev dktX48_bring_2 : List UInt8 := dkwX48_bring_2 ++ dktX48_bring_3
def dkwX48_bring_1 : List UInt8 := [22, 4, 9, 148, 156, 0, 7, 20, 0, 234, 173, 22, 4, 20, 1, 82, 109, 55, 8, 42, 180, 0, 10, 29]
abbrev dktX48_bring_1 : List UInt8 := dkwX48_bring_1 ++ dktX48_bring_2
def dkwX48_bring_0 : List UInt8 := [42, 180, 0, 35, 27, 182, 1, 79, 54, 7, 21, 7, 153, 0, 19, 28, 155, 0, 15, 28, 6, 162, 0, 10]
abbrev dktX48_bring_0 : List UInt8 := dkwX48_bring_0 ++ dktX48_bring_1
theorem dksX48_bring_0 : cX48_bring.data.toList.drop 0 = dktX48_bring_0 := by decide +kernel
theorem dksX48_bring_1 : cX48_bring.data.toList.drop 24 = dktX48_bring_1 := dk_seg dksX48_bring_0 24 rfl rfl
theorem dksX48_bring_2 : cX48_bring.data.toList.drop 48 = dktX48_bring_2 := dk_seg dksX48_bring_1 24 rfl rfl
theorem dksX48_bring_3 : cX48_bring.data.toList.drop 71 = dktX48_bring_3 := dk_seg dksX48_bring_2 23 rfl rfl
theorem dksX48_bring_4 : cX48_bring.data.toList.drop 94 = dktX48_bring_4 := dk_seg dksX48_bring_3 23 rfl rfl
theorem dksX48_bring_5 : cX48_bring.data.toList.drop 117 = dktX48_bring_5 := dk_seg dksX48_bring_4 23 rfl rfl
theorem dksX48_bring_6 : cX48_bring.data.toList.drop 141 = dktX48_bring_6 := dk_seg dksX48_bring_5 24 rfl rfl
theorem dX48_bring_0 : decode cX48_bring 0 = .ok (.aload_n 0, 1) := dk_42 (dk_at dksX48_bring_0 0 rfl rfl)
theorem dX48_bring_1 : decode cX48_bring 1 = .ok (.getfield 35, 3) := dk_180 0 35 (dk_at dksX48_bring_0 1 rfl rfl)
theorem dX48_bring_4 : decode cX48_bring 4 = .ok (.iload_n 1, 1) := dk_27 (dk_at dksX48_bring_0 4 rfl rfl)
theorem dX48_bring_5 : decode cX48_bring 5 = .ok (.invokevirtual 335, 3) := dk_182 1 79 (dk_at dksX48_bring_0 5 rfl rfl)
theorem dX48_bring_8 : decode cX48_bring 8 = .ok (.istore 7, 2) := dk_54 7 (dk_at dksX48_bring_0 8 rfl rfl)
theorem dX48_bring_10 : decode cX48_bring 10 = .ok (.iload 7, 2) := dk_21 7 (dk_at dksX48_bring_0 10 rfl rfl)
theorem dX48_bring_12 : decode cX48_bring 12 = .ok (.ifCond .eq 19, 3) := dk_153 0 19 (dk_at dksX48_bring_0 12 rfl rfl)
theorem dX48_bring_15 : decode cX48_bring 15 = .ok (.iload_n 2, 1) := dk_28 (dk_at dksX48_bring_0 15 rfl rfl)
theorem dX48_bring_16 : decode cX48_bring 16 = .ok (.ifCond .lt 15, 3) := dk_155 0 15 (dk_at dksX48_bring_0 16 rfl rfl)
theorem dX48_bring_19 : decode cX48_bring 19 = .ok (.iload_n 2, 1) := dk_28 (dk_at dksX48_bring_0 19 rfl rfl)
theorem dX48_bring_20 : decode cX48_bring 20 = .ok (.iconst 3, 1) := dk_6 (dk_at dksX48_bring_0 20 rfl rfl)
theorem dX48_bring_21 : decode cX48_bring 21 = .ok (.if_icmp .ge 10, 3) := dk_162 0 10 (dk_at dksX48_bring_0 21 rfl rfl)
theorem dX48_bring_24 : decode cX48_bring 24 = .ok (.lload 4, 2) := dk_22 4 (dk_at dksX48_bring_1 0 rfl rfl)
theorem dX48_bring_26 : decode cX48_bring 26 = .ok (.lconst 0, 1) := dk_9 (dk_at dksX48_bring_1 2 rfl rfl)
theorem dX48_bring_27 : decode cX48_bring 27 = .ok (.lcmp, 1) := dk_148 (dk_at dksX48_bring_1 3 rfl rfl)
theorem dX48_bring_28 : decode cX48_bring 28 = .ok (.ifCond .ge 7, 3) := dk_156 0 7 (dk_at dksX48_bring_1 4 rfl rfl)
theorem dX48_bring_31 : decode cX48_bring 31 = .ok (.ldc2_w 234, 3) := dk_20 0 234 (dk_at dksX48_bring_1 7 rfl rfl)
theorem dX48_bring_34 : decode cX48_bring 34 = .ok (.lreturn, 1) := dk_173 (dk_at dksX48_bring_1 10 rfl rfl)
theorem dX48_bring_35 : decode cX48_bring 35 = .ok (.lload 4, 2) := dk_22 4 (dk_at dksX48_bring_1 11 rfl rfl)
theorem dX48_bring_37 : decode cX48_bring 37 = .ok (.ldc2_w 338, 3) := dk_20 1 82 (dk_at dksX48_bring_1 13 rfl rfl)
theorem dX48_bring_40 : decode cX48_bring 40 = .ok (.ldiv, 1) := dk_109 (dk_at dksX48_bring_1 16 rfl rfl)
theorem dX48_bring_41 : decode cX48_bring 41 = .ok (.lstore 8, 2) := dk_55 8 (dk_at dksX48_bring_1 17 rfl rfl)
theorem dX48_bring_43 : decode cX48_bring 43 = .ok (.aload_n 0, 1) := dk_42 (dk_at dksX48_bring_1 19 rfl rfl)
theorem dX48_bring_44 : decode cX48_bring 44 = .ok (.getfield 10, 3) := dk_180 0 10 (dk_at dksX48_bring_1 20 rfl rfl)
theorem dX48_bring_47 : decode cX48_bring 47 = .ok (.iload_n 3, 1) := dk_29 (dk_at dksX48_bring_1 23 rfl rfl)
theorem dX48_bring_48 : decode cX48_bring 48 = .ok (.lload 8, 2) := dk_22 8 (dk_at dksX48_bring_2 0 rfl rfl)
theorem dX48_bring_50 : decode cX48_bring 50 = .ok (.ldc2_w 340, 3) := dk_20 1 84 (dk_at dksX48_bring_2 2 rfl rfl)
theorem dX48_bring_53 : decode cX48_bring 53 = .ok (.lcmp, 1) := dk_148 (dk_at dksX48_bring_2 5 rfl rfl)
theorem dX48_bring_54 : decode cX48_bring 54 = .ok (.ifCond .le 9, 3) := dk_158 0 9 (dk_at dksX48_bring_2 6 rfl rfl)
theorem dX48_bring_57 : decode cX48_bring 57 = .ok (.ldc_w 342, 3) := dk_19 1 86 (dk_at dksX48_bring_2 9 rfl rfl)
theorem dX48_bring_60 : decode cX48_bring 60 = .ok (.goto 6, 3) := dk_167 0 6 (dk_at dksX48_bring_2 12 rfl rfl)
theorem dX48_bring_63 : decode cX48_bring 63 = .ok (.lload 8, 2) := dk_22 8 (dk_at dksX48_bring_2 15 rfl rfl)
theorem dX48_bring_65 : decode cX48_bring 65 = .ok (.l2i, 1) := dk_136 (dk_at dksX48_bring_2 17 rfl rfl)
theorem dX48_bring_66 : decode cX48_bring 66 = .ok (.invokevirtual 343, 3) := dk_182 1 87 (dk_at dksX48_bring_2 18 rfl rfl)
theorem dX48_bring_69 : decode cX48_bring 69 = .ok (.lstore 10, 2) := dk_55 10 (dk_at dksX48_bring_2 21 rfl rfl)
theorem dX48_bring_71 : decode cX48_bring 71 = .ok (.lload 10, 2) := dk_22 10 (dk_at dksX48_bring_3 0 rfl rfl)
theorem dX48_bring_73 : decode cX48_bring 73 = .ok (.lconst 0, 1) := dk_9 (dk_at dksX48_bring_3 2 rfl rfl)
theorem dX48_bring_74 : decode cX48_bring 74 = .ok (.lcmp, 1) := dk_148 (dk_at dksX48_bring_3 3 rfl rfl)
theorem dX48_bring_75 : decode cX48_bring 75 = .ok (.ifCond .ge 7, 3) := dk_156 0 7 (dk_at dksX48_bring_3 4 rfl rfl)
theorem dX48_bring_78 : decode cX48_bring 78 = .ok (.ldc2_w 234, 3) := dk_20 0 234 (dk_at dksX48_bring_3 7 rfl rfl)
theorem dX48_bring_81 : decode cX48_bring 81 = .ok (.lreturn, 1) := dk_173 (dk_at dksX48_bring_3 10 rfl rfl)
theorem dX48_bring_82 : decode cX48_bring 82 = .ok (.aload_n 0, 1) := dk_42 (dk_at dksX48_bring_3 11 rfl rfl)
theorem dX48_bring_83 : decode cX48_bring 83 = .ok (.getfield 35, 3) := dk_180 0 35 (dk_at dksX48_bring_3 12 rfl rfl)
theorem dX48_bring_86 : decode cX48_bring 86 = .ok (.iload 7, 2) := dk_21 7 (dk_at dksX48_bring_3 15 rfl rfl)
theorem dX48_bring_88 : decode cX48_bring 88 = .ok (.invokevirtual 346, 3) := dk_182 1 90 (dk_at dksX48_bring_3 17 rfl rfl)
theorem dX48_bring_91 : decode cX48_bring 91 = .ok (.istore 12, 2) := dk_54 12 (dk_at dksX48_bring_3 20 rfl rfl)
theorem dX48_bring_93 : decode cX48_bring 93 = .ok (.aload_n 0, 1) := dk_42 (dk_at dksX48_bring_3 22 rfl rfl)
theorem dX48_bring_94 : decode cX48_bring 94 = .ok (.getfield 10, 3) := dk_180 0 10 (dk_at dksX48_bring_4 0 rfl rfl)
theorem dX48_bring_97 : decode cX48_bring 97 = .ok (.iload_n 3, 1) := dk_29 (dk_at dksX48_bring_4 3 rfl rfl)
theorem dX48_bring_98 : decode cX48_bring 98 = .ok (.iload_n 2, 1) := dk_28 (dk_at dksX48_bring_4 4 rfl rfl)
theorem dX48_bring_99 : decode cX48_bring 99 = .ok (.lload 10, 2) := dk_22 10 (dk_at dksX48_bring_4 5 rfl rfl)
theorem dX48_bring_101 : decode cX48_bring 101 = .ok (.iload 12, 2) := dk_21 12 (dk_at dksX48_bring_4 7 rfl rfl)
theorem dX48_bring_103 : decode cX48_bring 103 = .ok (.i2l, 1) := dk_133 (dk_at dksX48_bring_4 9 rfl rfl)
theorem dX48_bring_104 : decode cX48_bring 104 = .ok (.ladd, 1) := dk_97 (dk_at dksX48_bring_4 10 rfl rfl)
theorem dX48_bring_105 : decode cX48_bring 105 = .ok (.ldc2_w 234, 3) := dk_20 0 234 (dk_at dksX48_bring_4 11 rfl rfl)
theorem dX48_bring_108 : decode cX48_bring 108 = .ok (.lload 4, 2) := dk_22 4 (dk_at dksX48_bring_4 14 rfl rfl)
theorem dX48_bring_110 : decode cX48_bring 110 = .ok (.iload 6, 2) := dk_21 6 (dk_at dksX48_bring_4 16 rfl rfl)
theorem dX48_bring_112 : decode cX48_bring 112 = .ok (.invokevirtual 349, 3) := dk_182 1 93 (dk_at dksX48_bring_4 18 rfl rfl)
theorem dX48_bring_115 : decode cX48_bring 115 = .ok (.istore 13, 2) := dk_54 13 (dk_at dksX48_bring_4 21 rfl rfl)
theorem dX48_bring_117 : decode cX48_bring 117 = .ok (.iload 13, 2) := dk_21 13 (dk_at dksX48_bring_5 0 rfl rfl)
theorem dX48_bring_119 : decode cX48_bring 119 = .ok (.ifCond .lt 32, 3) := dk_155 0 32 (dk_at dksX48_bring_5 2 rfl rfl)
theorem dX48_bring_122 : decode cX48_bring 122 = .ok (.aload_n 0, 1) := dk_42 (dk_at dksX48_bring_5 5 rfl rfl)
theorem dX48_bring_123 : decode cX48_bring 123 = .ok (.getfield 102, 3) := dk_180 0 102 (dk_at dksX48_bring_5 6 rfl rfl)
theorem dX48_bring_126 : decode cX48_bring 126 = .ok (.iload_n 2, 1) := dk_28 (dk_at dksX48_bring_5 9 rfl rfl)
theorem dX48_bring_127 : decode cX48_bring 127 = .ok (.dup2, 1) := dk_92 (dk_at dksX48_bring_5 10 rfl rfl)
theorem dX48_bring_128 : decode cX48_bring 128 = .ok (.laload, 1) := dk_47 (dk_at dksX48_bring_5 11 rfl rfl)
theorem dX48_bring_129 : decode cX48_bring 129 = .ok (.iload 12, 2) := dk_21 12 (dk_at dksX48_bring_5 12 rfl rfl)
theorem dX48_bring_131 : decode cX48_bring 131 = .ok (.i2l, 1) := dk_133 (dk_at dksX48_bring_5 14 rfl rfl)
theorem dX48_bring_132 : decode cX48_bring 132 = .ok (.ladd, 1) := dk_97 (dk_at dksX48_bring_5 15 rfl rfl)
theorem dX48_bring_133 : decode cX48_bring 133 = .ok (.lastore, 1) := dk_80 (dk_at dksX48_bring_5 16 rfl rfl)
theorem dX48_bring_134 : decode cX48_bring 134 = .ok (.aload_n 0, 1) := dk_42 (dk_at dksX48_bring_5 17 rfl rfl)
theorem dX48_bring_135 : decode cX48_bring 135 = .ok (.getfield 21, 3) := dk_180 0 21 (dk_at dksX48_bring_5 18 rfl rfl)
theorem dX48_bring_138 : decode cX48_bring 138 = .ok (.iconst 0, 1) := dk_3 (dk_at dksX48_bring_5 21 rfl rfl)
theorem dX48_bring_139 : decode cX48_bring 139 = .ok (.iload_n 2, 1) := dk_28 (dk_at dksX48_bring_5 22 rfl rfl)
theorem dX48_bring_140 : decode cX48_bring 140 = .ok (.aload_n 0, 1) := dk_42 (dk_at dksX48_bring_5 23 rfl rfl)
theorem dX48_bring_141 : decode cX48_bring 141 = .ok (.getfield 102, 3) := dk_180 0 102 (dk_at dksX48_bring_6 0 rfl rfl)
theorem dX48_bring_144 : decode cX48_bring 144 = .ok (.iload_n 2, 1) := dk_28 (dk_at dksX48_bring_6 3 rfl rfl)
theorem dX48_bring_145 : decode cX48_bring 145 = .ok (.laload, 1) := dk_47 (dk_at dksX48_bring_6 4 rfl rfl)
theorem dX48_bring_146 : decode cX48_bring 146 = .ok (.invokevirtual 353, 3) := dk_182 1 97 (dk_at dksX48_bring_6 5 rfl rfl)
theorem dX48_bring_149 : decode cX48_bring 149 = .ok (.istore 14, 2) := dk_54 14 (dk_at dksX48_bring_6 8 rfl rfl)
theorem dX48_bring_151 : decode cX48_bring 151 = .ok (.iload 13, 2) := dk_21 13 (dk_at dksX48_bring_6 10 rfl rfl)
theorem dX48_bring_153 : decode cX48_bring 153 = .ok (.i2l, 1) := dk_133 (dk_at dksX48_bring_6 12 rfl rfl)
theorem dX48_bring_154 : decode cX48_bring 154 = .ok (.lreturn, 1) := dk_173 (dk_at dksX48_bring_6 13 rfl rfl)
abbrev cX48_sort : ByteArray := prog_56_method_30_code
def yX48_sort : MethodName := ⟨RX48, "sort", "()J"⟩
def dkwX48_sort_7 : List UInt8 := [132, 2, 1, 167, 255, 230, 27, 133, 173]
abbrev dktX48_sort_7 : List UInt8 := dkwX48_sort_7 ++ []
def dkwX48_sort_6 : List UInt8 := [28, 6, 162, 0, 27, 42, 180, 0, 102, 28, 9, 80, 42, 180, 0, 21, 3, 28, 9, 182, 1, 97, 62]
abbrev dktX48_sort_6 : List UInt8 := dkwX48_sort_6 ++ dktX48_sort_7
def dkwX48_sort_5 : List UInt8 := [167, 255, 218, 27, 21, 5, 155, 0, 7, 4, 167, 0, 4, 3, 96, 60, 132, 2, 1, 167, 255, 138, 3, 61]
abbrev dktX48_sort_5 : List UInt8 := dkwX48_sort_5 ++ dktX48_sort_6
def dkwX48_sort_4 : List UInt8 := [21, 5, 21, 6, 42, 180, 0, 21, 28, 21, 6, 3, 182, 1, 104, 182, 1, 112, 54, 7, 132, 6, 1]
abbrev dktX48_sort_4 : List UInt8 := dkwX48_sort_4 ++ dktX48_sort_5
def dkwX48_sort_3 : List UInt8 := [182, 1, 108, 54, 5, 3, 54, 6, 21, 6, 6, 162, 0, 38, 21, 5, 155, 0, 33, 42, 180, 0, 65]
abbrev dktX48_sort_3 : List UInt8 := dkwX48_sort_3 ++ dktX48_sort_4
def dkwX48_sort_2 : List UInt8 := [4, 3, 182, 1, 104, 97, 42, 180, 0, 21, 28, 5, 3, 182, 1, 104, 97, 66, 42, 180, 0, 65, 33]
abbrev dktX48_sort_2 : List UInt8 := dkwX48_sort_2 ++ dktX48_sort_3
def dkwX48_sort_1 : List UInt8 := [3, 182, 1, 104, 9, 148, 155, 0, 109, 42, 180, 0, 21, 28, 3, 3, 182, 1, 104, 42, 180, 0, 21, 28]
abbrev dktX48_sort_1 : List UInt8 := dkwX48_sort_1 ++ dktX48_sort_2
def dkwX48_sort_0 : List UInt8 := [42, 180, 0, 21, 182, 1, 101, 153, 0, 7, 20, 0, 234, 173, 3, 60, 3, 61, 42, 180, 0, 21, 28, 3]
abbrev dktX48_sort_0 : List UInt8 := dkwX48_sort_0 ++ dktX48_sort_1
theorem dksX48_sort_0 : cX48_sort.data.toList.drop 0 = dktX48_sort_0 := by decide +kernel
theorem dksX48_sort_1 : cX48_sort.data.toList.drop 24 = dktX48_sort_1 := dk_seg dksX48_sort_0 24 rfl rfl
theorem dksX48_sort_2 : cX48_sort.data.toList.drop 48 = dktX48_sort_2 := dk_seg dksX48_sort_1 24 rfl rfl
theorem dksX48_sort_3 : cX48_sort.data.toList.drop 71 = dktX48_sort_3 := dk_seg dksX48_sort_2 23 rfl rfl
theorem dksX48_sort_4 : cX48_sort.data.toList.drop 94 = dktX48_sort_4 := dk_seg dksX48_sort_3 23 rfl rfl
theorem dksX48_sort_5 : cX48_sort.data.toList.drop 117 = dktX48_sort_5 := dk_seg dksX48_sort_4 23 rfl rfl
theorem dksX48_sort_6 : cX48_sort.data.toList.drop 141 = dktX48_sort_6 := dk_seg dksX48_sort_5 24 rfl rfl
theorem dksX48_sort_7 : cX48_sort.data.toList.drop 164 = dktX48_sort_7 := dk_seg dksX48_sort_6 23 rfl rfl
theorem dX48_sort_0 : decode cX48_sort 0 = .ok (.aload_n 0, 1) := dk_42 (dk_at dksX48_sort_0 0 rfl rfl)
theorem dX48_sort_1 : decode cX48_sort 1 = .ok (.getfield 21, 3) := dk_180 0 21 (dk_at dksX48_sort_0 1 rfl rfl)
theorem dX48_sort_4 : decode cX48_sort 4 = .ok (.invokevirtual 357, 3) := dk_182 1 101 (dk_at dksX48_sort_0 4 rfl rfl)
theorem dX48_sort_7 : decode cX48_sort 7 = .ok (.ifCond .eq 7, 3) := dk_153 0 7 (dk_at dksX48_sort_0 7 rfl rfl)
theorem dX48_sort_10 : decode cX48_sort 10 = .ok (.ldc2_w 234, 3) := dk_20 0 234 (dk_at dksX48_sort_0 10 rfl rfl)
theorem dX48_sort_13 : decode cX48_sort 13 = .ok (.lreturn, 1) := dk_173 (dk_at dksX48_sort_0 13 rfl rfl)
theorem dX48_sort_14 : decode cX48_sort 14 = .ok (.iconst 0, 1) := dk_3 (dk_at dksX48_sort_0 14 rfl rfl)
theorem dX48_sort_15 : decode cX48_sort 15 = .ok (.istore_n 1, 1) := dk_60 (dk_at dksX48_sort_0 15 rfl rfl)
theorem dX48_sort_16 : decode cX48_sort 16 = .ok (.iconst 0, 1) := dk_3 (dk_at dksX48_sort_0 16 rfl rfl)
theorem dX48_sort_17 : decode cX48_sort 17 = .ok (.istore_n 2, 1) := dk_61 (dk_at dksX48_sort_0 17 rfl rfl)
theorem dX48_sort_18 : decode cX48_sort 18 = .ok (.aload_n 0, 1) := dk_42 (dk_at dksX48_sort_0 18 rfl rfl)
theorem dX48_sort_19 : decode cX48_sort 19 = .ok (.getfield 21, 3) := dk_180 0 21 (dk_at dksX48_sort_0 19 rfl rfl)
theorem dX48_sort_22 : decode cX48_sort 22 = .ok (.iload_n 2, 1) := dk_28 (dk_at dksX48_sort_0 22 rfl rfl)
theorem dX48_sort_23 : decode cX48_sort 23 = .ok (.iconst 0, 1) := dk_3 (dk_at dksX48_sort_0 23 rfl rfl)
theorem dX48_sort_24 : decode cX48_sort 24 = .ok (.iconst 0, 1) := dk_3 (dk_at dksX48_sort_1 0 rfl rfl)
theorem dX48_sort_25 : decode cX48_sort 25 = .ok (.invokevirtual 360, 3) := dk_182 1 104 (dk_at dksX48_sort_1 1 rfl rfl)
theorem dX48_sort_28 : decode cX48_sort 28 = .ok (.lconst 0, 1) := dk_9 (dk_at dksX48_sort_1 4 rfl rfl)
theorem dX48_sort_29 : decode cX48_sort 29 = .ok (.lcmp, 1) := dk_148 (dk_at dksX48_sort_1 5 rfl rfl)
theorem dX48_sort_30 : decode cX48_sort 30 = .ok (.ifCond .lt 109, 3) := dk_155 0 109 (dk_at dksX48_sort_1 6 rfl rfl)
theorem dX48_sort_33 : decode cX48_sort 33 = .ok (.aload_n 0, 1) := dk_42 (dk_at dksX48_sort_1 9 rfl rfl)
theorem dX48_sort_34 : decode cX48_sort 34 = .ok (.getfield 21, 3) := dk_180 0 21 (dk_at dksX48_sort_1 10 rfl rfl)
theorem dX48_sort_37 : decode cX48_sort 37 = .ok (.iload_n 2, 1) := dk_28 (dk_at dksX48_sort_1 13 rfl rfl)
theorem dX48_sort_38 : decode cX48_sort 38 = .ok (.iconst 0, 1) := dk_3 (dk_at dksX48_sort_1 14 rfl rfl)
theorem dX48_sort_39 : decode cX48_sort 39 = .ok (.iconst 0, 1) := dk_3 (dk_at dksX48_sort_1 15 rfl rfl)
theorem dX48_sort_40 : decode cX48_sort 40 = .ok (.invokevirtual 360, 3) := dk_182 1 104 (dk_at dksX48_sort_1 16 rfl rfl)
theorem dX48_sort_43 : decode cX48_sort 43 = .ok (.aload_n 0, 1) := dk_42 (dk_at dksX48_sort_1 19 rfl rfl)
theorem dX48_sort_44 : decode cX48_sort 44 = .ok (.getfield 21, 3) := dk_180 0 21 (dk_at dksX48_sort_1 20 rfl rfl)
theorem dX48_sort_47 : decode cX48_sort 47 = .ok (.iload_n 2, 1) := dk_28 (dk_at dksX48_sort_1 23 rfl rfl)
theorem dX48_sort_48 : decode cX48_sort 48 = .ok (.iconst 1, 1) := dk_4 (dk_at dksX48_sort_2 0 rfl rfl)
theorem dX48_sort_49 : decode cX48_sort 49 = .ok (.iconst 0, 1) := dk_3 (dk_at dksX48_sort_2 1 rfl rfl)
theorem dX48_sort_50 : decode cX48_sort 50 = .ok (.invokevirtual 360, 3) := dk_182 1 104 (dk_at dksX48_sort_2 2 rfl rfl)
theorem dX48_sort_53 : decode cX48_sort 53 = .ok (.ladd, 1) := dk_97 (dk_at dksX48_sort_2 5 rfl rfl)
theorem dX48_sort_54 : decode cX48_sort 54 = .ok (.aload_n 0, 1) := dk_42 (dk_at dksX48_sort_2 6 rfl rfl)
theorem dX48_sort_55 : decode cX48_sort 55 = .ok (.getfield 21, 3) := dk_180 0 21 (dk_at dksX48_sort_2 7 rfl rfl)
theorem dX48_sort_58 : decode cX48_sort 58 = .ok (.iload_n 2, 1) := dk_28 (dk_at dksX48_sort_2 10 rfl rfl)
theorem dX48_sort_59 : decode cX48_sort 59 = .ok (.iconst 2, 1) := dk_5 (dk_at dksX48_sort_2 11 rfl rfl)
theorem dX48_sort_60 : decode cX48_sort 60 = .ok (.iconst 0, 1) := dk_3 (dk_at dksX48_sort_2 12 rfl rfl)
theorem dX48_sort_61 : decode cX48_sort 61 = .ok (.invokevirtual 360, 3) := dk_182 1 104 (dk_at dksX48_sort_2 13 rfl rfl)
theorem dX48_sort_64 : decode cX48_sort 64 = .ok (.ladd, 1) := dk_97 (dk_at dksX48_sort_2 16 rfl rfl)
theorem dX48_sort_65 : decode cX48_sort 65 = .ok (.lstore_n 3, 1) := dk_66 (dk_at dksX48_sort_2 17 rfl rfl)
theorem dX48_sort_66 : decode cX48_sort 66 = .ok (.aload_n 0, 1) := dk_42 (dk_at dksX48_sort_2 18 rfl rfl)
theorem dX48_sort_67 : decode cX48_sort 67 = .ok (.getfield 65, 3) := dk_180 0 65 (dk_at dksX48_sort_2 19 rfl rfl)
theorem dX48_sort_70 : decode cX48_sort 70 = .ok (.lload_n 3, 1) := dk_33 (dk_at dksX48_sort_2 22 rfl rfl)
theorem dX48_sort_71 : decode cX48_sort 71 = .ok (.invokevirtual 364, 3) := dk_182 1 108 (dk_at dksX48_sort_3 0 rfl rfl)
theorem dX48_sort_74 : decode cX48_sort 74 = .ok (.istore 5, 2) := dk_54 5 (dk_at dksX48_sort_3 3 rfl rfl)
theorem dX48_sort_76 : decode cX48_sort 76 = .ok (.iconst 0, 1) := dk_3 (dk_at dksX48_sort_3 5 rfl rfl)
theorem dX48_sort_77 : decode cX48_sort 77 = .ok (.istore 6, 2) := dk_54 6 (dk_at dksX48_sort_3 6 rfl rfl)
theorem dX48_sort_79 : decode cX48_sort 79 = .ok (.iload 6, 2) := dk_21 6 (dk_at dksX48_sort_3 8 rfl rfl)
theorem dX48_sort_81 : decode cX48_sort 81 = .ok (.iconst 3, 1) := dk_6 (dk_at dksX48_sort_3 10 rfl rfl)
theorem dX48_sort_82 : decode cX48_sort 82 = .ok (.if_icmp .ge 38, 3) := dk_162 0 38 (dk_at dksX48_sort_3 11 rfl rfl)
theorem dX48_sort_85 : decode cX48_sort 85 = .ok (.iload 5, 2) := dk_21 5 (dk_at dksX48_sort_3 14 rfl rfl)
theorem dX48_sort_87 : decode cX48_sort 87 = .ok (.ifCond .lt 33, 3) := dk_155 0 33 (dk_at dksX48_sort_3 16 rfl rfl)
theorem dX48_sort_90 : decode cX48_sort 90 = .ok (.aload_n 0, 1) := dk_42 (dk_at dksX48_sort_3 19 rfl rfl)
theorem dX48_sort_91 : decode cX48_sort 91 = .ok (.getfield 65, 3) := dk_180 0 65 (dk_at dksX48_sort_3 20 rfl rfl)
theorem dX48_sort_94 : decode cX48_sort 94 = .ok (.iload 5, 2) := dk_21 5 (dk_at dksX48_sort_4 0 rfl rfl)
theorem dX48_sort_96 : decode cX48_sort 96 = .ok (.iload 6, 2) := dk_21 6 (dk_at dksX48_sort_4 2 rfl rfl)
theorem dX48_sort_98 : decode cX48_sort 98 = .ok (.aload_n 0, 1) := dk_42 (dk_at dksX48_sort_4 4 rfl rfl)
theorem dX48_sort_99 : decode cX48_sort 99 = .ok (.getfield 21, 3) := dk_180 0 21 (dk_at dksX48_sort_4 5 rfl rfl)
theorem dX48_sort_102 : decode cX48_sort 102 = .ok (.iload_n 2, 1) := dk_28 (dk_at dksX48_sort_4 8 rfl rfl)
theorem dX48_sort_103 : decode cX48_sort 103 = .ok (.iload 6, 2) := dk_21 6 (dk_at dksX48_sort_4 9 rfl rfl)
theorem dX48_sort_105 : decode cX48_sort 105 = .ok (.iconst 0, 1) := dk_3 (dk_at dksX48_sort_4 11 rfl rfl)
theorem dX48_sort_106 : decode cX48_sort 106 = .ok (.invokevirtual 360, 3) := dk_182 1 104 (dk_at dksX48_sort_4 12 rfl rfl)
theorem dX48_sort_109 : decode cX48_sort 109 = .ok (.invokevirtual 368, 3) := dk_182 1 112 (dk_at dksX48_sort_4 15 rfl rfl)
theorem dX48_sort_112 : decode cX48_sort 112 = .ok (.istore 7, 2) := dk_54 7 (dk_at dksX48_sort_4 18 rfl rfl)
theorem dX48_sort_114 : decode cX48_sort 114 = .ok (.iinc 6 1, 3) := dk_132 6 1 (dk_at dksX48_sort_4 20 rfl rfl)
theorem dX48_sort_117 : decode cX48_sort 117 = .ok (.goto (-38), 3) := dk_167 255 218 (dk_at dksX48_sort_5 0 rfl rfl)
theorem dX48_sort_120 : decode cX48_sort 120 = .ok (.iload_n 1, 1) := dk_27 (dk_at dksX48_sort_5 3 rfl rfl)
theorem dX48_sort_121 : decode cX48_sort 121 = .ok (.iload 5, 2) := dk_21 5 (dk_at dksX48_sort_5 4 rfl rfl)
theorem dX48_sort_123 : decode cX48_sort 123 = .ok (.ifCond .lt 7, 3) := dk_155 0 7 (dk_at dksX48_sort_5 6 rfl rfl)
theorem dX48_sort_126 : decode cX48_sort 126 = .ok (.iconst 1, 1) := dk_4 (dk_at dksX48_sort_5 9 rfl rfl)
theorem dX48_sort_127 : decode cX48_sort 127 = .ok (.goto 4, 3) := dk_167 0 4 (dk_at dksX48_sort_5 10 rfl rfl)
theorem dX48_sort_130 : decode cX48_sort 130 = .ok (.iconst 0, 1) := dk_3 (dk_at dksX48_sort_5 13 rfl rfl)
theorem dX48_sort_131 : decode cX48_sort 131 = .ok (.iadd, 1) := dk_96 (dk_at dksX48_sort_5 14 rfl rfl)
theorem dX48_sort_132 : decode cX48_sort 132 = .ok (.istore_n 1, 1) := dk_60 (dk_at dksX48_sort_5 15 rfl rfl)
theorem dX48_sort_133 : decode cX48_sort 133 = .ok (.iinc 2 1, 3) := dk_132 2 1 (dk_at dksX48_sort_5 16 rfl rfl)
theorem dX48_sort_136 : decode cX48_sort 136 = .ok (.goto (-118), 3) := dk_167 255 138 (dk_at dksX48_sort_5 19 rfl rfl)
theorem dX48_sort_139 : decode cX48_sort 139 = .ok (.iconst 0, 1) := dk_3 (dk_at dksX48_sort_5 22 rfl rfl)
theorem dX48_sort_140 : decode cX48_sort 140 = .ok (.istore_n 2, 1) := dk_61 (dk_at dksX48_sort_5 23 rfl rfl)
theorem dX48_sort_141 : decode cX48_sort 141 = .ok (.iload_n 2, 1) := dk_28 (dk_at dksX48_sort_6 0 rfl rfl)
theorem dX48_sort_142 : decode cX48_sort 142 = .ok (.iconst 3, 1) := dk_6 (dk_at dksX48_sort_6 1 rfl rfl)
theorem dX48_sort_143 : decode cX48_sort 143 = .ok (.if_icmp .ge 27, 3) := dk_162 0 27 (dk_at dksX48_sort_6 2 rfl rfl)
theorem dX48_sort_146 : decode cX48_sort 146 = .ok (.aload_n 0, 1) := dk_42 (dk_at dksX48_sort_6 5 rfl rfl)
theorem dX48_sort_147 : decode cX48_sort 147 = .ok (.getfield 102, 3) := dk_180 0 102 (dk_at dksX48_sort_6 6 rfl rfl)
theorem dX48_sort_150 : decode cX48_sort 150 = .ok (.iload_n 2, 1) := dk_28 (dk_at dksX48_sort_6 9 rfl rfl)
theorem dX48_sort_151 : decode cX48_sort 151 = .ok (.lconst 0, 1) := dk_9 (dk_at dksX48_sort_6 10 rfl rfl)
theorem dX48_sort_152 : decode cX48_sort 152 = .ok (.lastore, 1) := dk_80 (dk_at dksX48_sort_6 11 rfl rfl)
theorem dX48_sort_153 : decode cX48_sort 153 = .ok (.aload_n 0, 1) := dk_42 (dk_at dksX48_sort_6 12 rfl rfl)
theorem dX48_sort_154 : decode cX48_sort 154 = .ok (.getfield 21, 3) := dk_180 0 21 (dk_at dksX48_sort_6 13 rfl rfl)
theorem dX48_sort_157 : decode cX48_sort 157 = .ok (.iconst 0, 1) := dk_3 (dk_at dksX48_sort_6 16 rfl rfl)
theorem dX48_sort_158 : decode cX48_sort 158 = .ok (.iload_n 2, 1) := dk_28 (dk_at dksX48_sort_6 17 rfl rfl)
theorem dX48_sort_159 : decode cX48_sort 159 = .ok (.lconst 0, 1) := dk_9 (dk_at dksX48_sort_6 18 rfl rfl)
theorem dX48_sort_160 : decode cX48_sort 160 = .ok (.invokevirtual 353, 3) := dk_182 1 97 (dk_at dksX48_sort_6 19 rfl rfl)
theorem dX48_sort_163 : decode cX48_sort 163 = .ok (.istore_n 3, 1) := dk_62 (dk_at dksX48_sort_6 22 rfl rfl)
theorem dX48_sort_164 : decode cX48_sort 164 = .ok (.iinc 2 1, 3) := dk_132 2 1 (dk_at dksX48_sort_7 0 rfl rfl)
theorem dX48_sort_167 : decode cX48_sort 167 = .ok (.goto (-26), 3) := dk_167 255 230 (dk_at dksX48_sort_7 3 rfl rfl)
theorem dX48_sort_170 : decode cX48_sort 170 = .ok (.iload_n 1, 1) := dk_27 (dk_at dksX48_sort_7 6 rfl rfl)
theorem dX48_sort_171 : decode cX48_sort 171 = .ok (.i2l, 1) := dk_133 (dk_at dksX48_sort_7 7 rfl rfl)
theorem dX48_sort_172 : decode cX48_sort 172 = .ok (.lreturn, 1) := dk_173 (dk_at dksX48_sort_7 8 rfl rfl)
abbrev cX48_sell : ByteArray := prog_56_method_31_code
def yX48_sell : MethodName := ⟨RX48, "sell", "(I)J"⟩
def dkwX48_sell_1 : List UInt8 := [20, 0, 234, 173, 42, 180, 0, 105, 27, 4, 84, 42, 4, 3, 32, 182, 1, 118, 32, 173]
abbrev dktX48_sell_1 : List UInt8 := dkwX48_sell_1 ++ []
def dkwX48_sell_0 : List UInt8 := [42, 180, 0, 65, 27, 182, 1, 115, 65, 32, 9, 148, 155, 0, 12, 42, 180, 0, 105, 27, 51, 153, 0, 7]
abbrev dktX48_sell_0 : List UInt8 := dkwX48_sell_0 ++ dktX48_sell_1
theorem dksX48_sell_0 : cX48_sell.data.toList.drop 0 = dktX48_sell_0 := by decide +kernel
theorem dksX48_sell_1 : cX48_sell.data.toList.drop 24 = dktX48_sell_1 := dk_seg dksX48_sell_0 24 rfl rfl
theorem dX48_sell_0 : decode cX48_sell 0 = .ok (.aload_n 0, 1) := dk_42 (dk_at dksX48_sell_0 0 rfl rfl)
theorem dX48_sell_1 : decode cX48_sell 1 = .ok (.getfield 65, 3) := dk_180 0 65 (dk_at dksX48_sell_0 1 rfl rfl)
theorem dX48_sell_4 : decode cX48_sell 4 = .ok (.iload_n 1, 1) := dk_27 (dk_at dksX48_sell_0 4 rfl rfl)
theorem dX48_sell_5 : decode cX48_sell 5 = .ok (.invokevirtual 371, 3) := dk_182 1 115 (dk_at dksX48_sell_0 5 rfl rfl)
theorem dX48_sell_8 : decode cX48_sell 8 = .ok (.lstore_n 2, 1) := dk_65 (dk_at dksX48_sell_0 8 rfl rfl)
theorem dX48_sell_9 : decode cX48_sell 9 = .ok (.lload_n 2, 1) := dk_32 (dk_at dksX48_sell_0 9 rfl rfl)
theorem dX48_sell_10 : decode cX48_sell 10 = .ok (.lconst 0, 1) := dk_9 (dk_at dksX48_sell_0 10 rfl rfl)
theorem dX48_sell_11 : decode cX48_sell 11 = .ok (.lcmp, 1) := dk_148 (dk_at dksX48_sell_0 11 rfl rfl)
theorem dX48_sell_12 : decode cX48_sell 12 = .ok (.ifCond .lt 12, 3) := dk_155 0 12 (dk_at dksX48_sell_0 12 rfl rfl)
theorem dX48_sell_15 : decode cX48_sell 15 = .ok (.aload_n 0, 1) := dk_42 (dk_at dksX48_sell_0 15 rfl rfl)
theorem dX48_sell_16 : decode cX48_sell 16 = .ok (.getfield 105, 3) := dk_180 0 105 (dk_at dksX48_sell_0 16 rfl rfl)
theorem dX48_sell_19 : decode cX48_sell 19 = .ok (.iload_n 1, 1) := dk_27 (dk_at dksX48_sell_0 19 rfl rfl)
theorem dX48_sell_20 : decode cX48_sell 20 = .ok (.baload, 1) := dk_51 (dk_at dksX48_sell_0 20 rfl rfl)
theorem dX48_sell_21 : decode cX48_sell 21 = .ok (.ifCond .eq 7, 3) := dk_153 0 7 (dk_at dksX48_sell_0 21 rfl rfl)
theorem dX48_sell_24 : decode cX48_sell 24 = .ok (.ldc2_w 234, 3) := dk_20 0 234 (dk_at dksX48_sell_1 0 rfl rfl)
theorem dX48_sell_27 : decode cX48_sell 27 = .ok (.lreturn, 1) := dk_173 (dk_at dksX48_sell_1 3 rfl rfl)
theorem dX48_sell_28 : decode cX48_sell 28 = .ok (.aload_n 0, 1) := dk_42 (dk_at dksX48_sell_1 4 rfl rfl)
theorem dX48_sell_29 : decode cX48_sell 29 = .ok (.getfield 105, 3) := dk_180 0 105 (dk_at dksX48_sell_1 5 rfl rfl)
theorem dX48_sell_32 : decode cX48_sell 32 = .ok (.iload_n 1, 1) := dk_27 (dk_at dksX48_sell_1 8 rfl rfl)
theorem dX48_sell_33 : decode cX48_sell 33 = .ok (.iconst 1, 1) := dk_4 (dk_at dksX48_sell_1 9 rfl rfl)
theorem dX48_sell_34 : decode cX48_sell 34 = .ok (.bastore, 1) := dk_84 (dk_at dksX48_sell_1 10 rfl rfl)
theorem dX48_sell_35 : decode cX48_sell 35 = .ok (.aload_n 0, 1) := dk_42 (dk_at dksX48_sell_1 11 rfl rfl)
theorem dX48_sell_36 : decode cX48_sell 36 = .ok (.iconst 1, 1) := dk_4 (dk_at dksX48_sell_1 12 rfl rfl)
theorem dX48_sell_37 : decode cX48_sell 37 = .ok (.iconst 0, 1) := dk_3 (dk_at dksX48_sell_1 13 rfl rfl)
theorem dX48_sell_38 : decode cX48_sell 38 = .ok (.lload_n 2, 1) := dk_32 (dk_at dksX48_sell_1 14 rfl rfl)
theorem dX48_sell_39 : decode cX48_sell 39 = .ok (.invokevirtual 374, 3) := dk_182 1 118 (dk_at dksX48_sell_1 15 rfl rfl)
theorem dX48_sell_42 : decode cX48_sell 42 = .ok (.lload_n 2, 1) := dk_32 (dk_at dksX48_sell_1 18 rfl rfl)
theorem dX48_sell_43 : decode cX48_sell 43 = .ok (.lreturn, 1) := dk_173 (dk_at dksX48_sell_1 19 rfl rfl)
abbrev cX48_enter : ByteArray := prog_56_method_26_code
def yX48_enter : MethodName := ⟨RX48, "enter", "(IIJ)V"⟩
def dkwX48_enter_2 : List UInt8 := [28, 79, 42, 180, 0, 118, 42, 180, 1, 0, 33, 80, 42, 89, 180, 1, 0, 4, 96, 181, 1, 0, 177]
abbrev dktX48_enter_2 : List UInt8 := dkwX48_enter_2 ++ []
def dkwX48_enter_1 : List UInt8 := [17, 1, 244, 162, 0, 33, 42, 180, 0, 112, 42, 180, 1, 0, 27, 79, 42, 180, 0, 115, 42, 180, 1, 0]
abbrev dktX48_enter_1 : List UInt8 := dkwX48_enter_1 ++ dktX48_enter_2
def dkwX48_enter_0 : List UInt8 := [42, 180, 0, 109, 27, 92, 47, 33, 97, 80, 42, 180, 0, 109, 28, 92, 47, 33, 101, 80, 42, 180, 1, 0]
abbrev dktX48_enter_0 : List UInt8 := dkwX48_enter_0 ++ dktX48_enter_1
theorem dksX48_enter_0 : cX48_enter.data.toList.drop 0 = dktX48_enter_0 := by decide +kernel
theorem dksX48_enter_1 : cX48_enter.data.toList.drop 24 = dktX48_enter_1 := dk_seg dksX48_enter_0 24 rfl rfl
theorem dksX48_enter_2 : cX48_enter.data.toList.drop 48 = dktX48_enter_2 := dk_seg dksX48_enter_1 24 rfl rfl
theorem dX48_enter_0 : decode cX48_enter 0 = .ok (.aload_n 0, 1) := dk_42 (dk_at dksX48_enter_0 0 rfl rfl)
theorem dX48_enter_1 : decode cX48_enter 1 = .ok (.getfield 109, 3) := dk_180 0 109 (dk_at dksX48_enter_0 1 rfl rfl)
theorem dX48_enter_4 : decode cX48_enter 4 = .ok (.iload_n 1, 1) := dk_27 (dk_at dksX48_enter_0 4 rfl rfl)
theorem dX48_enter_5 : decode cX48_enter 5 = .ok (.dup2, 1) := dk_92 (dk_at dksX48_enter_0 5 rfl rfl)
theorem dX48_enter_6 : decode cX48_enter 6 = .ok (.laload, 1) := dk_47 (dk_at dksX48_enter_0 6 rfl rfl)
theorem dX48_enter_7 : decode cX48_enter 7 = .ok (.lload_n 3, 1) := dk_33 (dk_at dksX48_enter_0 7 rfl rfl)
theorem dX48_enter_8 : decode cX48_enter 8 = .ok (.ladd, 1) := dk_97 (dk_at dksX48_enter_0 8 rfl rfl)
theorem dX48_enter_9 : decode cX48_enter 9 = .ok (.lastore, 1) := dk_80 (dk_at dksX48_enter_0 9 rfl rfl)
theorem dX48_enter_10 : decode cX48_enter 10 = .ok (.aload_n 0, 1) := dk_42 (dk_at dksX48_enter_0 10 rfl rfl)
theorem dX48_enter_11 : decode cX48_enter 11 = .ok (.getfield 109, 3) := dk_180 0 109 (dk_at dksX48_enter_0 11 rfl rfl)
theorem dX48_enter_14 : decode cX48_enter 14 = .ok (.iload_n 2, 1) := dk_28 (dk_at dksX48_enter_0 14 rfl rfl)
theorem dX48_enter_15 : decode cX48_enter 15 = .ok (.dup2, 1) := dk_92 (dk_at dksX48_enter_0 15 rfl rfl)
theorem dX48_enter_16 : decode cX48_enter 16 = .ok (.laload, 1) := dk_47 (dk_at dksX48_enter_0 16 rfl rfl)
theorem dX48_enter_17 : decode cX48_enter 17 = .ok (.lload_n 3, 1) := dk_33 (dk_at dksX48_enter_0 17 rfl rfl)
theorem dX48_enter_18 : decode cX48_enter 18 = .ok (.lsub, 1) := dk_101 (dk_at dksX48_enter_0 18 rfl rfl)
theorem dX48_enter_19 : decode cX48_enter 19 = .ok (.lastore, 1) := dk_80 (dk_at dksX48_enter_0 19 rfl rfl)
theorem dX48_enter_20 : decode cX48_enter 20 = .ok (.aload_n 0, 1) := dk_42 (dk_at dksX48_enter_0 20 rfl rfl)
theorem dX48_enter_21 : decode cX48_enter 21 = .ok (.getfield 256, 3) := dk_180 1 0 (dk_at dksX48_enter_0 21 rfl rfl)
theorem dX48_enter_24 : decode cX48_enter 24 = .ok (.sipush 500, 3) := dk_17 1 244 (dk_at dksX48_enter_1 0 rfl rfl)
theorem dX48_enter_27 : decode cX48_enter 27 = .ok (.if_icmp .ge 33, 3) := dk_162 0 33 (dk_at dksX48_enter_1 3 rfl rfl)
theorem dX48_enter_30 : decode cX48_enter 30 = .ok (.aload_n 0, 1) := dk_42 (dk_at dksX48_enter_1 6 rfl rfl)
theorem dX48_enter_31 : decode cX48_enter 31 = .ok (.getfield 112, 3) := dk_180 0 112 (dk_at dksX48_enter_1 7 rfl rfl)
theorem dX48_enter_34 : decode cX48_enter 34 = .ok (.aload_n 0, 1) := dk_42 (dk_at dksX48_enter_1 10 rfl rfl)
theorem dX48_enter_35 : decode cX48_enter 35 = .ok (.getfield 256, 3) := dk_180 1 0 (dk_at dksX48_enter_1 11 rfl rfl)
theorem dX48_enter_38 : decode cX48_enter 38 = .ok (.iload_n 1, 1) := dk_27 (dk_at dksX48_enter_1 14 rfl rfl)
theorem dX48_enter_39 : decode cX48_enter 39 = .ok (.iastore, 1) := dk_79 (dk_at dksX48_enter_1 15 rfl rfl)
theorem dX48_enter_40 : decode cX48_enter 40 = .ok (.aload_n 0, 1) := dk_42 (dk_at dksX48_enter_1 16 rfl rfl)
theorem dX48_enter_41 : decode cX48_enter 41 = .ok (.getfield 115, 3) := dk_180 0 115 (dk_at dksX48_enter_1 17 rfl rfl)
theorem dX48_enter_44 : decode cX48_enter 44 = .ok (.aload_n 0, 1) := dk_42 (dk_at dksX48_enter_1 20 rfl rfl)
theorem dX48_enter_45 : decode cX48_enter 45 = .ok (.getfield 256, 3) := dk_180 1 0 (dk_at dksX48_enter_1 21 rfl rfl)
theorem dX48_enter_48 : decode cX48_enter 48 = .ok (.iload_n 2, 1) := dk_28 (dk_at dksX48_enter_2 0 rfl rfl)
theorem dX48_enter_49 : decode cX48_enter 49 = .ok (.iastore, 1) := dk_79 (dk_at dksX48_enter_2 1 rfl rfl)
theorem dX48_enter_50 : decode cX48_enter 50 = .ok (.aload_n 0, 1) := dk_42 (dk_at dksX48_enter_2 2 rfl rfl)
theorem dX48_enter_51 : decode cX48_enter 51 = .ok (.getfield 118, 3) := dk_180 0 118 (dk_at dksX48_enter_2 3 rfl rfl)
theorem dX48_enter_54 : decode cX48_enter 54 = .ok (.aload_n 0, 1) := dk_42 (dk_at dksX48_enter_2 6 rfl rfl)
theorem dX48_enter_55 : decode cX48_enter 55 = .ok (.getfield 256, 3) := dk_180 1 0 (dk_at dksX48_enter_2 7 rfl rfl)
theorem dX48_enter_58 : decode cX48_enter 58 = .ok (.lload_n 3, 1) := dk_33 (dk_at dksX48_enter_2 10 rfl rfl)
theorem dX48_enter_59 : decode cX48_enter 59 = .ok (.lastore, 1) := dk_80 (dk_at dksX48_enter_2 11 rfl rfl)
theorem dX48_enter_60 : decode cX48_enter 60 = .ok (.aload_n 0, 1) := dk_42 (dk_at dksX48_enter_2 12 rfl rfl)
theorem dX48_enter_61 : decode cX48_enter 61 = .ok (.dup, 1) := dk_89 (dk_at dksX48_enter_2 13 rfl rfl)
theorem dX48_enter_62 : decode cX48_enter 62 = .ok (.getfield 256, 3) := dk_180 1 0 (dk_at dksX48_enter_2 14 rfl rfl)
theorem dX48_enter_65 : decode cX48_enter 65 = .ok (.iconst 1, 1) := dk_4 (dk_at dksX48_enter_2 17 rfl rfl)
theorem dX48_enter_66 : decode cX48_enter 66 = .ok (.iadd, 1) := dk_96 (dk_at dksX48_enter_2 18 rfl rfl)
theorem dX48_enter_67 : decode cX48_enter 67 = .ok (.putfield 256, 3) := dk_181 1 0 (dk_at dksX48_enter_2 19 rfl rfl)
theorem dX48_enter_70 : decode cX48_enter 70 = .ok (.return_, 1) := dk_177 (dk_at dksX48_enter_2 22 rfl rfl)
abbrev cX48_classify : ByteArray := prog_56_method_32_code
def yX48_classify : MethodName := ⟨RX48, "classify", "(IJ)J"⟩
def dkwX48_classify_4 : List UInt8 := [180, 0, 28, 32, 182, 1, 131, 54, 4, 42, 180, 0, 28, 182, 1, 134, 133, 173]
abbrev dktX48_classify_4 : List UInt8 := dkwX48_classify_4 ++ []
def dkwX48_classify_3 : List UInt8 := [22, 5, 22, 7, 97, 10, 101, 22, 7, 109, 182, 1, 127, 54, 9, 132, 4, 1, 167, 255, 191, 42]
abbrev dktX48_classify_3 : List UInt8 := dkwX48_classify_3 ++ dktX48_classify_4
def dkwX48_classify_2 : List UInt8 := [180, 0, 65, 27, 21, 4, 4, 182, 1, 122, 55, 7, 42, 180, 0, 28, 21, 4, 22, 5, 22, 7, 109]
abbrev dktX48_classify_2 : List UInt8 := dkwX48_classify_2 ++ dktX48_classify_3
def dkwX48_classify_1 : List UInt8 := [6, 162, 0, 65, 20, 1, 125, 42, 180, 0, 65, 27, 21, 4, 3, 182, 1, 122, 105, 55, 5, 42]
abbrev dktX48_classify_1 : List UInt8 := dkwX48_classify_1 ++ dktX48_classify_2
def dkwX48_classify_0 : List UInt8 := [42, 180, 0, 65, 27, 3, 4, 182, 1, 122, 9, 148, 156, 0, 7, 20, 0, 234, 173, 3, 54, 4, 21, 4]
abbrev dktX48_classify_0 : List UInt8 := dkwX48_classify_0 ++ dktX48_classify_1
theorem dksX48_classify_0 : cX48_classify.data.toList.drop 0 = dktX48_classify_0 := by decide +kernel
theorem dksX48_classify_1 : cX48_classify.data.toList.drop 24 = dktX48_classify_1 := dk_seg dksX48_classify_0 24 rfl rfl
theorem dksX48_classify_2 : cX48_classify.data.toList.drop 46 = dktX48_classify_2 := dk_seg dksX48_classify_1 22 rfl rfl
theorem dksX48_classify_3 : cX48_classify.data.toList.drop 69 = dktX48_classify_3 := dk_seg dksX48_classify_2 23 rfl rfl
theorem dksX48_classify_4 : cX48_classify.data.toList.drop 91 = dktX48_classify_4 := dk_seg dksX48_classify_3 22 rfl rfl
theorem dX48_classify_0 : decode cX48_classify 0 = .ok (.aload_n 0, 1) := dk_42 (dk_at dksX48_classify_0 0 rfl rfl)
theorem dX48_classify_1 : decode cX48_classify 1 = .ok (.getfield 65, 3) := dk_180 0 65 (dk_at dksX48_classify_0 1 rfl rfl)
theorem dX48_classify_4 : decode cX48_classify 4 = .ok (.iload_n 1, 1) := dk_27 (dk_at dksX48_classify_0 4 rfl rfl)
theorem dX48_classify_5 : decode cX48_classify 5 = .ok (.iconst 0, 1) := dk_3 (dk_at dksX48_classify_0 5 rfl rfl)
theorem dX48_classify_6 : decode cX48_classify 6 = .ok (.iconst 1, 1) := dk_4 (dk_at dksX48_classify_0 6 rfl rfl)
theorem dX48_classify_7 : decode cX48_classify 7 = .ok (.invokevirtual 378, 3) := dk_182 1 122 (dk_at dksX48_classify_0 7 rfl rfl)
theorem dX48_classify_10 : decode cX48_classify 10 = .ok (.lconst 0, 1) := dk_9 (dk_at dksX48_classify_0 10 rfl rfl)
theorem dX48_classify_11 : decode cX48_classify 11 = .ok (.lcmp, 1) := dk_148 (dk_at dksX48_classify_0 11 rfl rfl)
theorem dX48_classify_12 : decode cX48_classify 12 = .ok (.ifCond .ge 7, 3) := dk_156 0 7 (dk_at dksX48_classify_0 12 rfl rfl)
theorem dX48_classify_15 : decode cX48_classify 15 = .ok (.ldc2_w 234, 3) := dk_20 0 234 (dk_at dksX48_classify_0 15 rfl rfl)
theorem dX48_classify_18 : decode cX48_classify 18 = .ok (.lreturn, 1) := dk_173 (dk_at dksX48_classify_0 18 rfl rfl)
theorem dX48_classify_19 : decode cX48_classify 19 = .ok (.iconst 0, 1) := dk_3 (dk_at dksX48_classify_0 19 rfl rfl)
theorem dX48_classify_20 : decode cX48_classify 20 = .ok (.istore 4, 2) := dk_54 4 (dk_at dksX48_classify_0 20 rfl rfl)
theorem dX48_classify_22 : decode cX48_classify 22 = .ok (.iload 4, 2) := dk_21 4 (dk_at dksX48_classify_0 22 rfl rfl)
theorem dX48_classify_24 : decode cX48_classify 24 = .ok (.iconst 3, 1) := dk_6 (dk_at dksX48_classify_1 0 rfl rfl)
theorem dX48_classify_25 : decode cX48_classify 25 = .ok (.if_icmp .ge 65, 3) := dk_162 0 65 (dk_at dksX48_classify_1 1 rfl rfl)
theorem dX48_classify_28 : decode cX48_classify 28 = .ok (.ldc2_w 381, 3) := dk_20 1 125 (dk_at dksX48_classify_1 4 rfl rfl)
theorem dX48_classify_31 : decode cX48_classify 31 = .ok (.aload_n 0, 1) := dk_42 (dk_at dksX48_classify_1 7 rfl rfl)
theorem dX48_classify_32 : decode cX48_classify 32 = .ok (.getfield 65, 3) := dk_180 0 65 (dk_at dksX48_classify_1 8 rfl rfl)
theorem dX48_classify_35 : decode cX48_classify 35 = .ok (.iload_n 1, 1) := dk_27 (dk_at dksX48_classify_1 11 rfl rfl)
theorem dX48_classify_36 : decode cX48_classify 36 = .ok (.iload 4, 2) := dk_21 4 (dk_at dksX48_classify_1 12 rfl rfl)
theorem dX48_classify_38 : decode cX48_classify 38 = .ok (.iconst 0, 1) := dk_3 (dk_at dksX48_classify_1 14 rfl rfl)
theorem dX48_classify_39 : decode cX48_classify 39 = .ok (.invokevirtual 378, 3) := dk_182 1 122 (dk_at dksX48_classify_1 15 rfl rfl)
theorem dX48_classify_42 : decode cX48_classify 42 = .ok (.lmul, 1) := dk_105 (dk_at dksX48_classify_1 18 rfl rfl)
theorem dX48_classify_43 : decode cX48_classify 43 = .ok (.lstore 5, 2) := dk_55 5 (dk_at dksX48_classify_1 19 rfl rfl)
theorem dX48_classify_45 : decode cX48_classify 45 = .ok (.aload_n 0, 1) := dk_42 (dk_at dksX48_classify_1 21 rfl rfl)
theorem dX48_classify_46 : decode cX48_classify 46 = .ok (.getfield 65, 3) := dk_180 0 65 (dk_at dksX48_classify_2 0 rfl rfl)
theorem dX48_classify_49 : decode cX48_classify 49 = .ok (.iload_n 1, 1) := dk_27 (dk_at dksX48_classify_2 3 rfl rfl)
theorem dX48_classify_50 : decode cX48_classify 50 = .ok (.iload 4, 2) := dk_21 4 (dk_at dksX48_classify_2 4 rfl rfl)
theorem dX48_classify_52 : decode cX48_classify 52 = .ok (.iconst 1, 1) := dk_4 (dk_at dksX48_classify_2 6 rfl rfl)
theorem dX48_classify_53 : decode cX48_classify 53 = .ok (.invokevirtual 378, 3) := dk_182 1 122 (dk_at dksX48_classify_2 7 rfl rfl)
theorem dX48_classify_56 : decode cX48_classify 56 = .ok (.lstore 7, 2) := dk_55 7 (dk_at dksX48_classify_2 10 rfl rfl)
theorem dX48_classify_58 : decode cX48_classify 58 = .ok (.aload_n 0, 1) := dk_42 (dk_at dksX48_classify_2 12 rfl rfl)
theorem dX48_classify_59 : decode cX48_classify 59 = .ok (.getfield 28, 3) := dk_180 0 28 (dk_at dksX48_classify_2 13 rfl rfl)
theorem dX48_classify_62 : decode cX48_classify 62 = .ok (.iload 4, 2) := dk_21 4 (dk_at dksX48_classify_2 16 rfl rfl)
theorem dX48_classify_64 : decode cX48_classify 64 = .ok (.lload 5, 2) := dk_22 5 (dk_at dksX48_classify_2 18 rfl rfl)
theorem dX48_classify_66 : decode cX48_classify 66 = .ok (.lload 7, 2) := dk_22 7 (dk_at dksX48_classify_2 20 rfl rfl)
theorem dX48_classify_68 : decode cX48_classify 68 = .ok (.ldiv, 1) := dk_109 (dk_at dksX48_classify_2 22 rfl rfl)
theorem dX48_classify_69 : decode cX48_classify 69 = .ok (.lload 5, 2) := dk_22 5 (dk_at dksX48_classify_3 0 rfl rfl)
theorem dX48_classify_71 : decode cX48_classify 71 = .ok (.lload 7, 2) := dk_22 7 (dk_at dksX48_classify_3 2 rfl rfl)
theorem dX48_classify_73 : decode cX48_classify 73 = .ok (.ladd, 1) := dk_97 (dk_at dksX48_classify_3 4 rfl rfl)
theorem dX48_classify_74 : decode cX48_classify 74 = .ok (.lconst 1, 1) := dk_10 (dk_at dksX48_classify_3 5 rfl rfl)
theorem dX48_classify_75 : decode cX48_classify 75 = .ok (.lsub, 1) := dk_101 (dk_at dksX48_classify_3 6 rfl rfl)
theorem dX48_classify_76 : decode cX48_classify 76 = .ok (.lload 7, 2) := dk_22 7 (dk_at dksX48_classify_3 7 rfl rfl)
theorem dX48_classify_78 : decode cX48_classify 78 = .ok (.ldiv, 1) := dk_109 (dk_at dksX48_classify_3 9 rfl rfl)
theorem dX48_classify_79 : decode cX48_classify 79 = .ok (.invokevirtual 383, 3) := dk_182 1 127 (dk_at dksX48_classify_3 10 rfl rfl)
theorem dX48_classify_82 : decode cX48_classify 82 = .ok (.istore 9, 2) := dk_54 9 (dk_at dksX48_classify_3 13 rfl rfl)
theorem dX48_classify_84 : decode cX48_classify 84 = .ok (.iinc 4 1, 3) := dk_132 4 1 (dk_at dksX48_classify_3 15 rfl rfl)
theorem dX48_classify_87 : decode cX48_classify 87 = .ok (.goto (-65), 3) := dk_167 255 191 (dk_at dksX48_classify_3 18 rfl rfl)
theorem dX48_classify_90 : decode cX48_classify 90 = .ok (.aload_n 0, 1) := dk_42 (dk_at dksX48_classify_3 21 rfl rfl)
theorem dX48_classify_91 : decode cX48_classify 91 = .ok (.getfield 28, 3) := dk_180 0 28 (dk_at dksX48_classify_4 0 rfl rfl)
theorem dX48_classify_94 : decode cX48_classify 94 = .ok (.lload_n 2, 1) := dk_32 (dk_at dksX48_classify_4 3 rfl rfl)
theorem dX48_classify_95 : decode cX48_classify 95 = .ok (.invokevirtual 387, 3) := dk_182 1 131 (dk_at dksX48_classify_4 4 rfl rfl)
theorem dX48_classify_98 : decode cX48_classify 98 = .ok (.istore 4, 2) := dk_54 4 (dk_at dksX48_classify_4 7 rfl rfl)
theorem dX48_classify_100 : decode cX48_classify 100 = .ok (.aload_n 0, 1) := dk_42 (dk_at dksX48_classify_4 9 rfl rfl)
theorem dX48_classify_101 : decode cX48_classify 101 = .ok (.getfield 28, 3) := dk_180 0 28 (dk_at dksX48_classify_4 10 rfl rfl)
theorem dX48_classify_104 : decode cX48_classify 104 = .ok (.invokevirtual 390, 3) := dk_182 1 134 (dk_at dksX48_classify_4 13 rfl rfl)
theorem dX48_classify_107 : decode cX48_classify 107 = .ok (.i2l, 1) := dk_133 (dk_at dksX48_classify_4 16 rfl rfl)
theorem dX48_classify_108 : decode cX48_classify 108 = .ok (.lreturn, 1) := dk_173 (dk_at dksX48_classify_4 17 rfl rfl)
abbrev cX48_keep : ByteArray := prog_56_method_33_code
def yX48_keep : MethodName := ⟨RX48, "keep", "(II)J"⟩
def dkwX48_keep_4 : List UInt8 := [156, 0, 9, 20, 0, 234, 167, 0, 14, 42, 180, 0, 42, 21, 8, 28, 182, 1, 151, 133, 173]
abbrev dktX48_keep_4 : List UInt8 := dkwX48_keep_4 ++ []
def dkwX48_keep_3 : List UInt8 := [20, 1, 145, 148, 158, 0, 9, 20, 1, 145, 167, 0, 5, 22, 6, 182, 1, 147, 54, 8, 21, 8]
abbrev dktX48_keep_3 : List UInt8 := dkwX48_keep_3 ++ dktX48_keep_4
def dkwX48_keep_2 : List UInt8 := [180, 0, 42, 29, 22, 4, 20, 1, 143, 148, 158, 0, 9, 20, 1, 143, 167, 0, 5, 22, 4, 22, 6]
abbrev dktX48_keep_2 : List UInt8 := dkwX48_keep_2 ++ dktX48_keep_3
def dkwX48_keep_1 : List UInt8 := [20, 0, 234, 173, 42, 180, 0, 65, 180, 1, 140, 27, 47, 55, 4, 22, 4, 20, 1, 125, 109, 55, 6, 42]
abbrev dktX48_keep_1 : List UInt8 := dkwX48_keep_1 ++ dktX48_keep_2
def dkwX48_keep_0 : List UInt8 := [42, 180, 0, 28, 182, 1, 134, 62, 42, 180, 0, 65, 27, 182, 1, 137, 153, 0, 7, 29, 156, 0, 7]
abbrev dktX48_keep_0 : List UInt8 := dkwX48_keep_0 ++ dktX48_keep_1
theorem dksX48_keep_0 : cX48_keep.data.toList.drop 0 = dktX48_keep_0 := by decide +kernel
theorem dksX48_keep_1 : cX48_keep.data.toList.drop 23 = dktX48_keep_1 := dk_seg dksX48_keep_0 23 rfl rfl
theorem dksX48_keep_2 : cX48_keep.data.toList.drop 47 = dktX48_keep_2 := dk_seg dksX48_keep_1 24 rfl rfl
theorem dksX48_keep_3 : cX48_keep.data.toList.drop 70 = dktX48_keep_3 := dk_seg dksX48_keep_2 23 rfl rfl
theorem dksX48_keep_4 : cX48_keep.data.toList.drop 92 = dktX48_keep_4 := dk_seg dksX48_keep_3 22 rfl rfl
theorem dX48_keep_0 : decode cX48_keep 0 = .ok (.aload_n 0, 1) := dk_42 (dk_at dksX48_keep_0 0 rfl rfl)
theorem dX48_keep_1 : decode cX48_keep 1 = .ok (.getfield 28, 3) := dk_180 0 28 (dk_at dksX48_keep_0 1 rfl rfl)
theorem dX48_keep_4 : decode cX48_keep 4 = .ok (.invokevirtual 390, 3) := dk_182 1 134 (dk_at dksX48_keep_0 4 rfl rfl)
theorem dX48_keep_7 : decode cX48_keep 7 = .ok (.istore_n 3, 1) := dk_62 (dk_at dksX48_keep_0 7 rfl rfl)
theorem dX48_keep_8 : decode cX48_keep 8 = .ok (.aload_n 0, 1) := dk_42 (dk_at dksX48_keep_0 8 rfl rfl)
theorem dX48_keep_9 : decode cX48_keep 9 = .ok (.getfield 65, 3) := dk_180 0 65 (dk_at dksX48_keep_0 9 rfl rfl)
theorem dX48_keep_12 : decode cX48_keep 12 = .ok (.iload_n 1, 1) := dk_27 (dk_at dksX48_keep_0 12 rfl rfl)
theorem dX48_keep_13 : decode cX48_keep 13 = .ok (.invokevirtual 393, 3) := dk_182 1 137 (dk_at dksX48_keep_0 13 rfl rfl)
theorem dX48_keep_16 : decode cX48_keep 16 = .ok (.ifCond .eq 7, 3) := dk_153 0 7 (dk_at dksX48_keep_0 16 rfl rfl)
theorem dX48_keep_19 : decode cX48_keep 19 = .ok (.iload_n 3, 1) := dk_29 (dk_at dksX48_keep_0 19 rfl rfl)
theorem dX48_keep_20 : decode cX48_keep 20 = .ok (.ifCond .ge 7, 3) := dk_156 0 7 (dk_at dksX48_keep_0 20 rfl rfl)
theorem dX48_keep_23 : decode cX48_keep 23 = .ok (.ldc2_w 234, 3) := dk_20 0 234 (dk_at dksX48_keep_1 0 rfl rfl)
theorem dX48_keep_26 : decode cX48_keep 26 = .ok (.lreturn, 1) := dk_173 (dk_at dksX48_keep_1 3 rfl rfl)
theorem dX48_keep_27 : decode cX48_keep 27 = .ok (.aload_n 0, 1) := dk_42 (dk_at dksX48_keep_1 4 rfl rfl)
theorem dX48_keep_28 : decode cX48_keep 28 = .ok (.getfield 65, 3) := dk_180 0 65 (dk_at dksX48_keep_1 5 rfl rfl)
theorem dX48_keep_31 : decode cX48_keep 31 = .ok (.getfield 396, 3) := dk_180 1 140 (dk_at dksX48_keep_1 8 rfl rfl)
theorem dX48_keep_34 : decode cX48_keep 34 = .ok (.iload_n 1, 1) := dk_27 (dk_at dksX48_keep_1 11 rfl rfl)
theorem dX48_keep_35 : decode cX48_keep 35 = .ok (.laload, 1) := dk_47 (dk_at dksX48_keep_1 12 rfl rfl)
theorem dX48_keep_36 : decode cX48_keep 36 = .ok (.lstore 4, 2) := dk_55 4 (dk_at dksX48_keep_1 13 rfl rfl)
theorem dX48_keep_38 : decode cX48_keep 38 = .ok (.lload 4, 2) := dk_22 4 (dk_at dksX48_keep_1 15 rfl rfl)
theorem dX48_keep_40 : decode cX48_keep 40 = .ok (.ldc2_w 381, 3) := dk_20 1 125 (dk_at dksX48_keep_1 17 rfl rfl)
theorem dX48_keep_43 : decode cX48_keep 43 = .ok (.ldiv, 1) := dk_109 (dk_at dksX48_keep_1 20 rfl rfl)
theorem dX48_keep_44 : decode cX48_keep 44 = .ok (.lstore 6, 2) := dk_55 6 (dk_at dksX48_keep_1 21 rfl rfl)
theorem dX48_keep_46 : decode cX48_keep 46 = .ok (.aload_n 0, 1) := dk_42 (dk_at dksX48_keep_1 23 rfl rfl)
theorem dX48_keep_47 : decode cX48_keep 47 = .ok (.getfield 42, 3) := dk_180 0 42 (dk_at dksX48_keep_2 0 rfl rfl)
theorem dX48_keep_50 : decode cX48_keep 50 = .ok (.iload_n 3, 1) := dk_29 (dk_at dksX48_keep_2 3 rfl rfl)
theorem dX48_keep_51 : decode cX48_keep 51 = .ok (.lload 4, 2) := dk_22 4 (dk_at dksX48_keep_2 4 rfl rfl)
theorem dX48_keep_53 : decode cX48_keep 53 = .ok (.ldc2_w 399, 3) := dk_20 1 143 (dk_at dksX48_keep_2 6 rfl rfl)
theorem dX48_keep_56 : decode cX48_keep 56 = .ok (.lcmp, 1) := dk_148 (dk_at dksX48_keep_2 9 rfl rfl)
theorem dX48_keep_57 : decode cX48_keep 57 = .ok (.ifCond .le 9, 3) := dk_158 0 9 (dk_at dksX48_keep_2 10 rfl rfl)
theorem dX48_keep_60 : decode cX48_keep 60 = .ok (.ldc2_w 399, 3) := dk_20 1 143 (dk_at dksX48_keep_2 13 rfl rfl)
theorem dX48_keep_63 : decode cX48_keep 63 = .ok (.goto 5, 3) := dk_167 0 5 (dk_at dksX48_keep_2 16 rfl rfl)
theorem dX48_keep_66 : decode cX48_keep 66 = .ok (.lload 4, 2) := dk_22 4 (dk_at dksX48_keep_2 19 rfl rfl)
theorem dX48_keep_68 : decode cX48_keep 68 = .ok (.lload 6, 2) := dk_22 6 (dk_at dksX48_keep_2 21 rfl rfl)
theorem dX48_keep_70 : decode cX48_keep 70 = .ok (.ldc2_w 401, 3) := dk_20 1 145 (dk_at dksX48_keep_3 0 rfl rfl)
theorem dX48_keep_73 : decode cX48_keep 73 = .ok (.lcmp, 1) := dk_148 (dk_at dksX48_keep_3 3 rfl rfl)
theorem dX48_keep_74 : decode cX48_keep 74 = .ok (.ifCond .le 9, 3) := dk_158 0 9 (dk_at dksX48_keep_3 4 rfl rfl)
theorem dX48_keep_77 : decode cX48_keep 77 = .ok (.ldc2_w 401, 3) := dk_20 1 145 (dk_at dksX48_keep_3 7 rfl rfl)
theorem dX48_keep_80 : decode cX48_keep 80 = .ok (.goto 5, 3) := dk_167 0 5 (dk_at dksX48_keep_3 10 rfl rfl)
theorem dX48_keep_83 : decode cX48_keep 83 = .ok (.lload 6, 2) := dk_22 6 (dk_at dksX48_keep_3 13 rfl rfl)
theorem dX48_keep_85 : decode cX48_keep 85 = .ok (.invokevirtual 403, 3) := dk_182 1 147 (dk_at dksX48_keep_3 15 rfl rfl)
theorem dX48_keep_88 : decode cX48_keep 88 = .ok (.istore 8, 2) := dk_54 8 (dk_at dksX48_keep_3 18 rfl rfl)
theorem dX48_keep_90 : decode cX48_keep 90 = .ok (.iload 8, 2) := dk_21 8 (dk_at dksX48_keep_3 20 rfl rfl)
theorem dX48_keep_92 : decode cX48_keep 92 = .ok (.ifCond .ge 9, 3) := dk_156 0 9 (dk_at dksX48_keep_4 0 rfl rfl)
theorem dX48_keep_95 : decode cX48_keep 95 = .ok (.ldc2_w 234, 3) := dk_20 0 234 (dk_at dksX48_keep_4 3 rfl rfl)
theorem dX48_keep_98 : decode cX48_keep 98 = .ok (.goto 14, 3) := dk_167 0 14 (dk_at dksX48_keep_4 6 rfl rfl)
theorem dX48_keep_101 : decode cX48_keep 101 = .ok (.aload_n 0, 1) := dk_42 (dk_at dksX48_keep_4 9 rfl rfl)
theorem dX48_keep_102 : decode cX48_keep 102 = .ok (.getfield 42, 3) := dk_180 0 42 (dk_at dksX48_keep_4 10 rfl rfl)
theorem dX48_keep_105 : decode cX48_keep 105 = .ok (.iload 8, 2) := dk_21 8 (dk_at dksX48_keep_4 13 rfl rfl)
theorem dX48_keep_107 : decode cX48_keep 107 = .ok (.iload_n 2, 1) := dk_28 (dk_at dksX48_keep_4 15 rfl rfl)
theorem dX48_keep_108 : decode cX48_keep 108 = .ok (.invokevirtual 407, 3) := dk_182 1 151 (dk_at dksX48_keep_4 16 rfl rfl)
theorem dX48_keep_111 : decode cX48_keep 111 = .ok (.i2l, 1) := dk_133 (dk_at dksX48_keep_4 19 rfl rfl)
theorem dX48_keep_112 : decode cX48_keep 112 = .ok (.lreturn, 1) := dk_173 (dk_at dksX48_keep_4 20 rfl rfl)
abbrev cX48_undo : ByteArray := prog_56_method_35_code
def yX48_undo : MethodName := ⟨RX48, "undo", "()J"⟩
def dkwX48_undo_8 : List UInt8 := [167, 255, 179, 132, 3, 1, 167, 255, 165, 27, 133, 173]
abbrev dktX48_undo_8 : List UInt8 := dkwX48_undo_8 ++ []
def dkwX48_undo_7 : List UInt8 := [42, 180, 0, 121, 29, 46, 182, 1, 180, 153, 0, 7, 4, 167, 0, 4, 3, 54, 6, 132, 4, 1]
abbrev dktX48_undo_7 : List UInt8 := dkwX48_undo_7 ++ dktX48_undo_8
def dkwX48_undo_6 : List UInt8 := [155, 0, 40, 42, 180, 0, 121, 21, 5, 46, 155, 0, 30, 42, 180, 0, 56, 42, 180, 0, 121, 21, 5, 46]
abbrev dktX48_undo_6 : List UInt8 := dkwX48_undo_6 ++ dktX48_undo_7
def dkwX48_undo_5 : List UInt8 := [182, 1, 177, 155, 0, 70, 42, 180, 0, 49, 29, 21, 4, 182, 1, 177, 54, 5, 42, 180, 0, 121, 29, 46]
abbrev dktX48_undo_5 : List UInt8 := dkwX48_undo_5 ++ dktX48_undo_6
def dkwX48_undo_4 : List UInt8 := [132, 3, 1, 167, 255, 172, 3, 62, 29, 28, 162, 0, 92, 3, 54, 4, 42, 180, 0, 49, 29, 21, 4]
abbrev dktX48_undo_4 : List UInt8 := dkwX48_undo_4 ++ dktX48_undo_5
def dkwX48_undo_3 : List UInt8 := [46, 133, 182, 1, 173, 79, 27, 42, 180, 0, 121, 29, 46, 155, 0, 7, 4, 167, 0, 4, 3, 96, 60]
abbrev dktX48_undo_3 : List UInt8 := dkwX48_undo_3 ++ dktX48_undo_4
def dkwX48_undo_2 : List UInt8 := [29, 46, 16, 6, 112, 4, 42, 180, 0, 49, 180, 1, 167, 29, 46, 96, 42, 180, 0, 49, 180, 1, 170, 29]
abbrev dktX48_undo_2 : List UInt8 := dkwX48_undo_2 ++ dktX48_undo_3
def dkwX48_undo_1 : List UInt8 := [42, 29, 182, 1, 161, 153, 0, 7, 2, 167, 0, 44, 42, 180, 0, 56, 29, 42, 180, 0, 49, 180, 1, 164]
abbrev dktX48_undo_1 : List UInt8 := dkwX48_undo_1 ++ dktX48_undo_2
def dkwX48_undo_0 : List UInt8 := [3, 60, 42, 180, 0, 49, 180, 1, 158, 3, 46, 61, 3, 62, 29, 28, 162, 0, 85, 42, 180, 0, 121, 29]
abbrev dktX48_undo_0 : List UInt8 := dkwX48_undo_0 ++ dktX48_undo_1
theorem dksX48_undo_0 : cX48_undo.data.toList.drop 0 = dktX48_undo_0 := by decide +kernel
theorem dksX48_undo_1 : cX48_undo.data.toList.drop 24 = dktX48_undo_1 := dk_seg dksX48_undo_0 24 rfl rfl
theorem dksX48_undo_2 : cX48_undo.data.toList.drop 48 = dktX48_undo_2 := dk_seg dksX48_undo_1 24 rfl rfl
theorem dksX48_undo_3 : cX48_undo.data.toList.drop 72 = dktX48_undo_3 := dk_seg dksX48_undo_2 24 rfl rfl
theorem dksX48_undo_4 : cX48_undo.data.toList.drop 95 = dktX48_undo_4 := dk_seg dksX48_undo_3 23 rfl rfl
theorem dksX48_undo_5 : cX48_undo.data.toList.drop 118 = dktX48_undo_5 := dk_seg dksX48_undo_4 23 rfl rfl
theorem dksX48_undo_6 : cX48_undo.data.toList.drop 142 = dktX48_undo_6 := dk_seg dksX48_undo_5 24 rfl rfl
theorem dksX48_undo_7 : cX48_undo.data.toList.drop 166 = dktX48_undo_7 := dk_seg dksX48_undo_6 24 rfl rfl
theorem dksX48_undo_8 : cX48_undo.data.toList.drop 188 = dktX48_undo_8 := dk_seg dksX48_undo_7 22 rfl rfl
theorem dX48_undo_0 : decode cX48_undo 0 = .ok (.iconst 0, 1) := dk_3 (dk_at dksX48_undo_0 0 rfl rfl)
theorem dX48_undo_1 : decode cX48_undo 1 = .ok (.istore_n 1, 1) := dk_60 (dk_at dksX48_undo_0 1 rfl rfl)
theorem dX48_undo_2 : decode cX48_undo 2 = .ok (.aload_n 0, 1) := dk_42 (dk_at dksX48_undo_0 2 rfl rfl)
theorem dX48_undo_3 : decode cX48_undo 3 = .ok (.getfield 49, 3) := dk_180 0 49 (dk_at dksX48_undo_0 3 rfl rfl)
theorem dX48_undo_6 : decode cX48_undo 6 = .ok (.getfield 414, 3) := dk_180 1 158 (dk_at dksX48_undo_0 6 rfl rfl)
theorem dX48_undo_9 : decode cX48_undo 9 = .ok (.iconst 0, 1) := dk_3 (dk_at dksX48_undo_0 9 rfl rfl)
theorem dX48_undo_10 : decode cX48_undo 10 = .ok (.iaload, 1) := dk_46 (dk_at dksX48_undo_0 10 rfl rfl)
theorem dX48_undo_11 : decode cX48_undo 11 = .ok (.istore_n 2, 1) := dk_61 (dk_at dksX48_undo_0 11 rfl rfl)
theorem dX48_undo_12 : decode cX48_undo 12 = .ok (.iconst 0, 1) := dk_3 (dk_at dksX48_undo_0 12 rfl rfl)
theorem dX48_undo_13 : decode cX48_undo 13 = .ok (.istore_n 3, 1) := dk_62 (dk_at dksX48_undo_0 13 rfl rfl)
theorem dX48_undo_14 : decode cX48_undo 14 = .ok (.iload_n 3, 1) := dk_29 (dk_at dksX48_undo_0 14 rfl rfl)
theorem dX48_undo_15 : decode cX48_undo 15 = .ok (.iload_n 2, 1) := dk_28 (dk_at dksX48_undo_0 15 rfl rfl)
theorem dX48_undo_16 : decode cX48_undo 16 = .ok (.if_icmp .ge 85, 3) := dk_162 0 85 (dk_at dksX48_undo_0 16 rfl rfl)
theorem dX48_undo_19 : decode cX48_undo 19 = .ok (.aload_n 0, 1) := dk_42 (dk_at dksX48_undo_0 19 rfl rfl)
theorem dX48_undo_20 : decode cX48_undo 20 = .ok (.getfield 121, 3) := dk_180 0 121 (dk_at dksX48_undo_0 20 rfl rfl)
theorem dX48_undo_23 : decode cX48_undo 23 = .ok (.iload_n 3, 1) := dk_29 (dk_at dksX48_undo_0 23 rfl rfl)
theorem dX48_undo_24 : decode cX48_undo 24 = .ok (.aload_n 0, 1) := dk_42 (dk_at dksX48_undo_1 0 rfl rfl)
theorem dX48_undo_25 : decode cX48_undo 25 = .ok (.iload_n 3, 1) := dk_29 (dk_at dksX48_undo_1 1 rfl rfl)
theorem dX48_undo_26 : decode cX48_undo 26 = .ok (.invokevirtual 417, 3) := dk_182 1 161 (dk_at dksX48_undo_1 2 rfl rfl)
theorem dX48_undo_29 : decode cX48_undo 29 = .ok (.ifCond .eq 7, 3) := dk_153 0 7 (dk_at dksX48_undo_1 5 rfl rfl)
theorem dX48_undo_32 : decode cX48_undo 32 = .ok (.iconst (-1), 1) := dk_2 (dk_at dksX48_undo_1 8 rfl rfl)
theorem dX48_undo_33 : decode cX48_undo 33 = .ok (.goto 44, 3) := dk_167 0 44 (dk_at dksX48_undo_1 9 rfl rfl)
theorem dX48_undo_36 : decode cX48_undo 36 = .ok (.aload_n 0, 1) := dk_42 (dk_at dksX48_undo_1 12 rfl rfl)
theorem dX48_undo_37 : decode cX48_undo 37 = .ok (.getfield 56, 3) := dk_180 0 56 (dk_at dksX48_undo_1 13 rfl rfl)
theorem dX48_undo_40 : decode cX48_undo 40 = .ok (.iload_n 3, 1) := dk_29 (dk_at dksX48_undo_1 16 rfl rfl)
theorem dX48_undo_41 : decode cX48_undo 41 = .ok (.aload_n 0, 1) := dk_42 (dk_at dksX48_undo_1 17 rfl rfl)
theorem dX48_undo_42 : decode cX48_undo 42 = .ok (.getfield 49, 3) := dk_180 0 49 (dk_at dksX48_undo_1 18 rfl rfl)
theorem dX48_undo_45 : decode cX48_undo 45 = .ok (.getfield 420, 3) := dk_180 1 164 (dk_at dksX48_undo_1 21 rfl rfl)
theorem dX48_undo_48 : decode cX48_undo 48 = .ok (.iload_n 3, 1) := dk_29 (dk_at dksX48_undo_2 0 rfl rfl)
theorem dX48_undo_49 : decode cX48_undo 49 = .ok (.iaload, 1) := dk_46 (dk_at dksX48_undo_2 1 rfl rfl)
theorem dX48_undo_50 : decode cX48_undo 50 = .ok (.bipush 6, 2) := dk_16 6 (dk_at dksX48_undo_2 2 rfl rfl)
theorem dX48_undo_52 : decode cX48_undo 52 = .ok (.irem, 1) := dk_112 (dk_at dksX48_undo_2 4 rfl rfl)
theorem dX48_undo_53 : decode cX48_undo 53 = .ok (.iconst 1, 1) := dk_4 (dk_at dksX48_undo_2 5 rfl rfl)
theorem dX48_undo_54 : decode cX48_undo 54 = .ok (.aload_n 0, 1) := dk_42 (dk_at dksX48_undo_2 6 rfl rfl)
theorem dX48_undo_55 : decode cX48_undo 55 = .ok (.getfield 49, 3) := dk_180 0 49 (dk_at dksX48_undo_2 7 rfl rfl)
theorem dX48_undo_58 : decode cX48_undo 58 = .ok (.getfield 423, 3) := dk_180 1 167 (dk_at dksX48_undo_2 10 rfl rfl)
theorem dX48_undo_61 : decode cX48_undo 61 = .ok (.iload_n 3, 1) := dk_29 (dk_at dksX48_undo_2 13 rfl rfl)
theorem dX48_undo_62 : decode cX48_undo 62 = .ok (.iaload, 1) := dk_46 (dk_at dksX48_undo_2 14 rfl rfl)
theorem dX48_undo_63 : decode cX48_undo 63 = .ok (.iadd, 1) := dk_96 (dk_at dksX48_undo_2 15 rfl rfl)
theorem dX48_undo_64 : decode cX48_undo 64 = .ok (.aload_n 0, 1) := dk_42 (dk_at dksX48_undo_2 16 rfl rfl)
theorem dX48_undo_65 : decode cX48_undo 65 = .ok (.getfield 49, 3) := dk_180 0 49 (dk_at dksX48_undo_2 17 rfl rfl)
theorem dX48_undo_68 : decode cX48_undo 68 = .ok (.getfield 426, 3) := dk_180 1 170 (dk_at dksX48_undo_2 20 rfl rfl)
theorem dX48_undo_71 : decode cX48_undo 71 = .ok (.iload_n 3, 1) := dk_29 (dk_at dksX48_undo_2 23 rfl rfl)
theorem dX48_undo_72 : decode cX48_undo 72 = .ok (.iaload, 1) := dk_46 (dk_at dksX48_undo_3 0 rfl rfl)
theorem dX48_undo_73 : decode cX48_undo 73 = .ok (.i2l, 1) := dk_133 (dk_at dksX48_undo_3 1 rfl rfl)
theorem dX48_undo_74 : decode cX48_undo 74 = .ok (.invokevirtual 429, 3) := dk_182 1 173 (dk_at dksX48_undo_3 2 rfl rfl)
theorem dX48_undo_77 : decode cX48_undo 77 = .ok (.iastore, 1) := dk_79 (dk_at dksX48_undo_3 5 rfl rfl)
theorem dX48_undo_78 : decode cX48_undo 78 = .ok (.iload_n 1, 1) := dk_27 (dk_at dksX48_undo_3 6 rfl rfl)
theorem dX48_undo_79 : decode cX48_undo 79 = .ok (.aload_n 0, 1) := dk_42 (dk_at dksX48_undo_3 7 rfl rfl)
theorem dX48_undo_80 : decode cX48_undo 80 = .ok (.getfield 121, 3) := dk_180 0 121 (dk_at dksX48_undo_3 8 rfl rfl)
theorem dX48_undo_83 : decode cX48_undo 83 = .ok (.iload_n 3, 1) := dk_29 (dk_at dksX48_undo_3 11 rfl rfl)
theorem dX48_undo_84 : decode cX48_undo 84 = .ok (.iaload, 1) := dk_46 (dk_at dksX48_undo_3 12 rfl rfl)
theorem dX48_undo_85 : decode cX48_undo 85 = .ok (.ifCond .lt 7, 3) := dk_155 0 7 (dk_at dksX48_undo_3 13 rfl rfl)
theorem dX48_undo_88 : decode cX48_undo 88 = .ok (.iconst 1, 1) := dk_4 (dk_at dksX48_undo_3 16 rfl rfl)
theorem dX48_undo_89 : decode cX48_undo 89 = .ok (.goto 4, 3) := dk_167 0 4 (dk_at dksX48_undo_3 17 rfl rfl)
theorem dX48_undo_92 : decode cX48_undo 92 = .ok (.iconst 0, 1) := dk_3 (dk_at dksX48_undo_3 20 rfl rfl)
theorem dX48_undo_93 : decode cX48_undo 93 = .ok (.iadd, 1) := dk_96 (dk_at dksX48_undo_3 21 rfl rfl)
theorem dX48_undo_94 : decode cX48_undo 94 = .ok (.istore_n 1, 1) := dk_60 (dk_at dksX48_undo_3 22 rfl rfl)
theorem dX48_undo_95 : decode cX48_undo 95 = .ok (.iinc 3 1, 3) := dk_132 3 1 (dk_at dksX48_undo_4 0 rfl rfl)
theorem dX48_undo_98 : decode cX48_undo 98 = .ok (.goto (-84), 3) := dk_167 255 172 (dk_at dksX48_undo_4 3 rfl rfl)
theorem dX48_undo_101 : decode cX48_undo 101 = .ok (.iconst 0, 1) := dk_3 (dk_at dksX48_undo_4 6 rfl rfl)
theorem dX48_undo_102 : decode cX48_undo 102 = .ok (.istore_n 3, 1) := dk_62 (dk_at dksX48_undo_4 7 rfl rfl)
theorem dX48_undo_103 : decode cX48_undo 103 = .ok (.iload_n 3, 1) := dk_29 (dk_at dksX48_undo_4 8 rfl rfl)
theorem dX48_undo_104 : decode cX48_undo 104 = .ok (.iload_n 2, 1) := dk_28 (dk_at dksX48_undo_4 9 rfl rfl)
theorem dX48_undo_105 : decode cX48_undo 105 = .ok (.if_icmp .ge 92, 3) := dk_162 0 92 (dk_at dksX48_undo_4 10 rfl rfl)
theorem dX48_undo_108 : decode cX48_undo 108 = .ok (.iconst 0, 1) := dk_3 (dk_at dksX48_undo_4 13 rfl rfl)
theorem dX48_undo_109 : decode cX48_undo 109 = .ok (.istore 4, 2) := dk_54 4 (dk_at dksX48_undo_4 14 rfl rfl)
theorem dX48_undo_111 : decode cX48_undo 111 = .ok (.aload_n 0, 1) := dk_42 (dk_at dksX48_undo_4 16 rfl rfl)
theorem dX48_undo_112 : decode cX48_undo 112 = .ok (.getfield 49, 3) := dk_180 0 49 (dk_at dksX48_undo_4 17 rfl rfl)
theorem dX48_undo_115 : decode cX48_undo 115 = .ok (.iload_n 3, 1) := dk_29 (dk_at dksX48_undo_4 20 rfl rfl)
theorem dX48_undo_116 : decode cX48_undo 116 = .ok (.iload 4, 2) := dk_21 4 (dk_at dksX48_undo_4 21 rfl rfl)
theorem dX48_undo_118 : decode cX48_undo 118 = .ok (.invokevirtual 433, 3) := dk_182 1 177 (dk_at dksX48_undo_5 0 rfl rfl)
theorem dX48_undo_121 : decode cX48_undo 121 = .ok (.ifCond .lt 70, 3) := dk_155 0 70 (dk_at dksX48_undo_5 3 rfl rfl)
theorem dX48_undo_124 : decode cX48_undo 124 = .ok (.aload_n 0, 1) := dk_42 (dk_at dksX48_undo_5 6 rfl rfl)
theorem dX48_undo_125 : decode cX48_undo 125 = .ok (.getfield 49, 3) := dk_180 0 49 (dk_at dksX48_undo_5 7 rfl rfl)
theorem dX48_undo_128 : decode cX48_undo 128 = .ok (.iload_n 3, 1) := dk_29 (dk_at dksX48_undo_5 10 rfl rfl)
theorem dX48_undo_129 : decode cX48_undo 129 = .ok (.iload 4, 2) := dk_21 4 (dk_at dksX48_undo_5 11 rfl rfl)
theorem dX48_undo_131 : decode cX48_undo 131 = .ok (.invokevirtual 433, 3) := dk_182 1 177 (dk_at dksX48_undo_5 13 rfl rfl)
theorem dX48_undo_134 : decode cX48_undo 134 = .ok (.istore 5, 2) := dk_54 5 (dk_at dksX48_undo_5 16 rfl rfl)
theorem dX48_undo_136 : decode cX48_undo 136 = .ok (.aload_n 0, 1) := dk_42 (dk_at dksX48_undo_5 18 rfl rfl)
theorem dX48_undo_137 : decode cX48_undo 137 = .ok (.getfield 121, 3) := dk_180 0 121 (dk_at dksX48_undo_5 19 rfl rfl)
theorem dX48_undo_140 : decode cX48_undo 140 = .ok (.iload_n 3, 1) := dk_29 (dk_at dksX48_undo_5 22 rfl rfl)
theorem dX48_undo_141 : decode cX48_undo 141 = .ok (.iaload, 1) := dk_46 (dk_at dksX48_undo_5 23 rfl rfl)
theorem dX48_undo_142 : decode cX48_undo 142 = .ok (.ifCond .lt 40, 3) := dk_155 0 40 (dk_at dksX48_undo_6 0 rfl rfl)
theorem dX48_undo_145 : decode cX48_undo 145 = .ok (.aload_n 0, 1) := dk_42 (dk_at dksX48_undo_6 3 rfl rfl)
theorem dX48_undo_146 : decode cX48_undo 146 = .ok (.getfield 121, 3) := dk_180 0 121 (dk_at dksX48_undo_6 4 rfl rfl)
theorem dX48_undo_149 : decode cX48_undo 149 = .ok (.iload 5, 2) := dk_21 5 (dk_at dksX48_undo_6 7 rfl rfl)
theorem dX48_undo_151 : decode cX48_undo 151 = .ok (.iaload, 1) := dk_46 (dk_at dksX48_undo_6 9 rfl rfl)
theorem dX48_undo_152 : decode cX48_undo 152 = .ok (.ifCond .lt 30, 3) := dk_155 0 30 (dk_at dksX48_undo_6 10 rfl rfl)
theorem dX48_undo_155 : decode cX48_undo 155 = .ok (.aload_n 0, 1) := dk_42 (dk_at dksX48_undo_6 13 rfl rfl)
theorem dX48_undo_156 : decode cX48_undo 156 = .ok (.getfield 56, 3) := dk_180 0 56 (dk_at dksX48_undo_6 14 rfl rfl)
theorem dX48_undo_159 : decode cX48_undo 159 = .ok (.aload_n 0, 1) := dk_42 (dk_at dksX48_undo_6 17 rfl rfl)
theorem dX48_undo_160 : decode cX48_undo 160 = .ok (.getfield 121, 3) := dk_180 0 121 (dk_at dksX48_undo_6 18 rfl rfl)
theorem dX48_undo_163 : decode cX48_undo 163 = .ok (.iload 5, 2) := dk_21 5 (dk_at dksX48_undo_6 21 rfl rfl)
theorem dX48_undo_165 : decode cX48_undo 165 = .ok (.iaload, 1) := dk_46 (dk_at dksX48_undo_6 23 rfl rfl)
theorem dX48_undo_166 : decode cX48_undo 166 = .ok (.aload_n 0, 1) := dk_42 (dk_at dksX48_undo_7 0 rfl rfl)
theorem dX48_undo_167 : decode cX48_undo 167 = .ok (.getfield 121, 3) := dk_180 0 121 (dk_at dksX48_undo_7 1 rfl rfl)
theorem dX48_undo_170 : decode cX48_undo 170 = .ok (.iload_n 3, 1) := dk_29 (dk_at dksX48_undo_7 4 rfl rfl)
theorem dX48_undo_171 : decode cX48_undo 171 = .ok (.iaload, 1) := dk_46 (dk_at dksX48_undo_7 5 rfl rfl)
theorem dX48_undo_172 : decode cX48_undo 172 = .ok (.invokevirtual 436, 3) := dk_182 1 180 (dk_at dksX48_undo_7 6 rfl rfl)
theorem dX48_undo_175 : decode cX48_undo 175 = .ok (.ifCond .eq 7, 3) := dk_153 0 7 (dk_at dksX48_undo_7 9 rfl rfl)
theorem dX48_undo_178 : decode cX48_undo 178 = .ok (.iconst 1, 1) := dk_4 (dk_at dksX48_undo_7 12 rfl rfl)
theorem dX48_undo_179 : decode cX48_undo 179 = .ok (.goto 4, 3) := dk_167 0 4 (dk_at dksX48_undo_7 13 rfl rfl)
theorem dX48_undo_182 : decode cX48_undo 182 = .ok (.iconst 0, 1) := dk_3 (dk_at dksX48_undo_7 16 rfl rfl)
theorem dX48_undo_183 : decode cX48_undo 183 = .ok (.istore 6, 2) := dk_54 6 (dk_at dksX48_undo_7 17 rfl rfl)
theorem dX48_undo_185 : decode cX48_undo 185 = .ok (.iinc 4 1, 3) := dk_132 4 1 (dk_at dksX48_undo_7 19 rfl rfl)
theorem dX48_undo_188 : decode cX48_undo 188 = .ok (.goto (-77), 3) := dk_167 255 179 (dk_at dksX48_undo_8 0 rfl rfl)
theorem dX48_undo_191 : decode cX48_undo 191 = .ok (.iinc 3 1, 3) := dk_132 3 1 (dk_at dksX48_undo_8 3 rfl rfl)
theorem dX48_undo_194 : decode cX48_undo 194 = .ok (.goto (-91), 3) := dk_167 255 165 (dk_at dksX48_undo_8 6 rfl rfl)
theorem dX48_undo_197 : decode cX48_undo 197 = .ok (.iload_n 1, 1) := dk_27 (dk_at dksX48_undo_8 9 rfl rfl)
theorem dX48_undo_198 : decode cX48_undo 198 = .ok (.i2l, 1) := dk_133 (dk_at dksX48_undo_8 10 rfl rfl)
theorem dX48_undo_199 : decode cX48_undo 199 = .ok (.lreturn, 1) := dk_173 (dk_at dksX48_undo_8 11 rfl rfl)
abbrev cX48_isInRing : ByteArray := prog_56_method_34_code
def yX48_isInRing : MethodName := ⟨RX48, "isInRing", "(I)Z"⟩
def dkwX48_isInRing_1 : List UInt8 := [182, 1, 155, 27, 160, 0, 7, 4, 167, 0, 4, 3, 61, 132, 3, 1, 167, 255, 220, 28, 172]
abbrev dktX48_isInRing_1 : List UInt8 := dkwX48_isInRing_1 ++ []
def dkwX48_isInRing_0 : List UInt8 := [3, 61, 3, 62, 42, 180, 0, 49, 29, 182, 1, 155, 155, 0, 31, 28, 154, 0, 15, 42, 180, 0, 49, 29]
abbrev dktX48_isInRing_0 : List UInt8 := dkwX48_isInRing_0 ++ dktX48_isInRing_1
theorem dksX48_isInRing_0 : cX48_isInRing.data.toList.drop 0 = dktX48_isInRing_0 := by decide +kernel
theorem dksX48_isInRing_1 : cX48_isInRing.data.toList.drop 24 = dktX48_isInRing_1 := dk_seg dksX48_isInRing_0 24 rfl rfl
theorem dX48_isInRing_0 : decode cX48_isInRing 0 = .ok (.iconst 0, 1) := dk_3 (dk_at dksX48_isInRing_0 0 rfl rfl)
theorem dX48_isInRing_1 : decode cX48_isInRing 1 = .ok (.istore_n 2, 1) := dk_61 (dk_at dksX48_isInRing_0 1 rfl rfl)
theorem dX48_isInRing_2 : decode cX48_isInRing 2 = .ok (.iconst 0, 1) := dk_3 (dk_at dksX48_isInRing_0 2 rfl rfl)
theorem dX48_isInRing_3 : decode cX48_isInRing 3 = .ok (.istore_n 3, 1) := dk_62 (dk_at dksX48_isInRing_0 3 rfl rfl)
theorem dX48_isInRing_4 : decode cX48_isInRing 4 = .ok (.aload_n 0, 1) := dk_42 (dk_at dksX48_isInRing_0 4 rfl rfl)
theorem dX48_isInRing_5 : decode cX48_isInRing 5 = .ok (.getfield 49, 3) := dk_180 0 49 (dk_at dksX48_isInRing_0 5 rfl rfl)
theorem dX48_isInRing_8 : decode cX48_isInRing 8 = .ok (.iload_n 3, 1) := dk_29 (dk_at dksX48_isInRing_0 8 rfl rfl)
theorem dX48_isInRing_9 : decode cX48_isInRing 9 = .ok (.invokevirtual 411, 3) := dk_182 1 155 (dk_at dksX48_isInRing_0 9 rfl rfl)
theorem dX48_isInRing_12 : decode cX48_isInRing 12 = .ok (.ifCond .lt 31, 3) := dk_155 0 31 (dk_at dksX48_isInRing_0 12 rfl rfl)
theorem dX48_isInRing_15 : decode cX48_isInRing 15 = .ok (.iload_n 2, 1) := dk_28 (dk_at dksX48_isInRing_0 15 rfl rfl)
theorem dX48_isInRing_16 : decode cX48_isInRing 16 = .ok (.ifCond .ne 15, 3) := dk_154 0 15 (dk_at dksX48_isInRing_0 16 rfl rfl)
theorem dX48_isInRing_19 : decode cX48_isInRing 19 = .ok (.aload_n 0, 1) := dk_42 (dk_at dksX48_isInRing_0 19 rfl rfl)
theorem dX48_isInRing_20 : decode cX48_isInRing 20 = .ok (.getfield 49, 3) := dk_180 0 49 (dk_at dksX48_isInRing_0 20 rfl rfl)
theorem dX48_isInRing_23 : decode cX48_isInRing 23 = .ok (.iload_n 3, 1) := dk_29 (dk_at dksX48_isInRing_0 23 rfl rfl)
theorem dX48_isInRing_24 : decode cX48_isInRing 24 = .ok (.invokevirtual 411, 3) := dk_182 1 155 (dk_at dksX48_isInRing_1 0 rfl rfl)
theorem dX48_isInRing_27 : decode cX48_isInRing 27 = .ok (.iload_n 1, 1) := dk_27 (dk_at dksX48_isInRing_1 3 rfl rfl)
theorem dX48_isInRing_28 : decode cX48_isInRing 28 = .ok (.if_icmp .ne 7, 3) := dk_160 0 7 (dk_at dksX48_isInRing_1 4 rfl rfl)
theorem dX48_isInRing_31 : decode cX48_isInRing 31 = .ok (.iconst 1, 1) := dk_4 (dk_at dksX48_isInRing_1 7 rfl rfl)
theorem dX48_isInRing_32 : decode cX48_isInRing 32 = .ok (.goto 4, 3) := dk_167 0 4 (dk_at dksX48_isInRing_1 8 rfl rfl)
theorem dX48_isInRing_35 : decode cX48_isInRing 35 = .ok (.iconst 0, 1) := dk_3 (dk_at dksX48_isInRing_1 11 rfl rfl)
theorem dX48_isInRing_36 : decode cX48_isInRing 36 = .ok (.istore_n 2, 1) := dk_61 (dk_at dksX48_isInRing_1 12 rfl rfl)
theorem dX48_isInRing_37 : decode cX48_isInRing 37 = .ok (.iinc 3 1, 3) := dk_132 3 1 (dk_at dksX48_isInRing_1 13 rfl rfl)
theorem dX48_isInRing_40 : decode cX48_isInRing 40 = .ok (.goto (-36), 3) := dk_167 255 220 (dk_at dksX48_isInRing_1 16 rfl rfl)
theorem dX48_isInRing_43 : decode cX48_isInRing 43 = .ok (.iload_n 2, 1) := dk_28 (dk_at dksX48_isInRing_1 19 rfl rfl)
theorem dX48_isInRing_44 : decode cX48_isInRing 44 = .ok (.ireturn, 1) := dk_172 (dk_at dksX48_isInRing_1 20 rfl rfl)
abbrev cX48_refund : ByteArray := prog_56_method_36_code
def yX48_refund : MethodName := ⟨RX48, "refund", "(IJIIJ)J"⟩
def dkwX48_refund_1 : List UInt8 := [6, 5, 20, 1, 187, 182, 1, 118, 21, 8, 133, 173]
abbrev dktX48_refund_1 : List UInt8 := dkwX48_refund_1 ++ []
def dkwX48_refund_0 : List UInt8 := [42, 180, 0, 72, 27, 32, 21, 4, 21, 5, 22, 6, 182, 1, 183, 54, 8, 21, 8, 4, 160, 0, 12, 42]
abbrev dktX48_refund_0 : List UInt8 := dkwX48_refund_0 ++ dktX48_refund_1
theorem dksX48_refund_0 : cX48_refund.data.toList.drop 0 = dktX48_refund_0 := by decide +kernel
theorem dksX48_refund_1 : cX48_refund.data.toList.drop 24 = dktX48_refund_1 := dk_seg dksX48_refund_0 24 rfl rfl
theorem dX48_refund_0 : decode cX48_refund 0 = .ok (.aload_n 0, 1) := dk_42 (dk_at dksX48_refund_0 0 rfl rfl)
theorem dX48_refund_1 : decode cX48_refund 1 = .ok (.getfield 72, 3) := dk_180 0 72 (dk_at dksX48_refund_0 1 rfl rfl)
theorem dX48_refund_4 : decode cX48_refund 4 = .ok (.iload_n 1, 1) := dk_27 (dk_at dksX48_refund_0 4 rfl rfl)
theorem dX48_refund_5 : decode cX48_refund 5 = .ok (.lload_n 2, 1) := dk_32 (dk_at dksX48_refund_0 5 rfl rfl)
theorem dX48_refund_6 : decode cX48_refund 6 = .ok (.iload 4, 2) := dk_21 4 (dk_at dksX48_refund_0 6 rfl rfl)
theorem dX48_refund_8 : decode cX48_refund 8 = .ok (.iload 5, 2) := dk_21 5 (dk_at dksX48_refund_0 8 rfl rfl)
theorem dX48_refund_10 : decode cX48_refund 10 = .ok (.lload 6, 2) := dk_22 6 (dk_at dksX48_refund_0 10 rfl rfl)
theorem dX48_refund_12 : decode cX48_refund 12 = .ok (.invokevirtual 439, 3) := dk_182 1 183 (dk_at dksX48_refund_0 12 rfl rfl)
theorem dX48_refund_15 : decode cX48_refund 15 = .ok (.istore 8, 2) := dk_54 8 (dk_at dksX48_refund_0 15 rfl rfl)
theorem dX48_refund_17 : decode cX48_refund 17 = .ok (.iload 8, 2) := dk_21 8 (dk_at dksX48_refund_0 17 rfl rfl)
theorem dX48_refund_19 : decode cX48_refund 19 = .ok (.iconst 1, 1) := dk_4 (dk_at dksX48_refund_0 19 rfl rfl)
theorem dX48_refund_20 : decode cX48_refund 20 = .ok (.if_icmp .ne 12, 3) := dk_160 0 12 (dk_at dksX48_refund_0 20 rfl rfl)
theorem dX48_refund_23 : decode cX48_refund 23 = .ok (.aload_n 0, 1) := dk_42 (dk_at dksX48_refund_0 23 rfl rfl)
theorem dX48_refund_24 : decode cX48_refund 24 = .ok (.iconst 3, 1) := dk_6 (dk_at dksX48_refund_1 0 rfl rfl)
theorem dX48_refund_25 : decode cX48_refund 25 = .ok (.iconst 2, 1) := dk_5 (dk_at dksX48_refund_1 1 rfl rfl)
theorem dX48_refund_26 : decode cX48_refund 26 = .ok (.ldc2_w 443, 3) := dk_20 1 187 (dk_at dksX48_refund_1 2 rfl rfl)
theorem dX48_refund_29 : decode cX48_refund 29 = .ok (.invokevirtual 374, 3) := dk_182 1 118 (dk_at dksX48_refund_1 5 rfl rfl)
theorem dX48_refund_32 : decode cX48_refund 32 = .ok (.iload 8, 2) := dk_21 8 (dk_at dksX48_refund_1 8 rfl rfl)
theorem dX48_refund_34 : decode cX48_refund 34 = .ok (.i2l, 1) := dk_133 (dk_at dksX48_refund_1 10 rfl rfl)
theorem dX48_refund_35 : decode cX48_refund 35 = .ok (.lreturn, 1) := dk_173 (dk_at dksX48_refund_1 11 rfl rfl)
abbrev cX48_fee : ByteArray := prog_56_method_37_code
def yX48_fee : MethodName := ⟨RX48, "fee", "(IJ)J"⟩
def dkwX48_fee_4 : List UInt8 := [167, 255, 202, 22, 4, 173]
abbrev dktX48_fee_4 : List UInt8 := dkwX48_fee_4 ++ []
def dkwX48_fee_3 : List UInt8 := [42, 16, 8, 21, 6, 96, 7, 22, 7, 182, 1, 118, 22, 4, 22, 7, 97, 55, 4, 132, 6, 1]
abbrev dktX48_fee_3 : List UInt8 := dkwX48_fee_3 ++ dktX48_fee_4
def dkwX48_fee_2 : List UInt8 := [180, 0, 10, 27, 21, 6, 182, 1, 191, 32, 105, 20, 1, 125, 109, 55, 7, 22, 7, 9, 148, 158, 0, 22]
abbrev dktX48_fee_2 : List UInt8 := dkwX48_fee_2 ++ dktX48_fee_3
def dkwX48_fee_1 : List UInt8 := [148, 156, 0, 7, 20, 0, 234, 173, 9, 55, 4, 3, 54, 6, 21, 6, 16, 8, 162, 0, 53, 42]
abbrev dktX48_fee_1 : List UInt8 := dkwX48_fee_1 ++ dktX48_fee_2
def dkwX48_fee_0 : List UInt8 := [32, 9, 148, 155, 0, 25, 32, 20, 1, 189, 148, 157, 0, 17, 42, 180, 0, 10, 27, 3, 182, 1, 191, 9]
abbrev dktX48_fee_0 : List UInt8 := dkwX48_fee_0 ++ dktX48_fee_1
theorem dksX48_fee_0 : cX48_fee.data.toList.drop 0 = dktX48_fee_0 := by decide +kernel
theorem dksX48_fee_1 : cX48_fee.data.toList.drop 24 = dktX48_fee_1 := dk_seg dksX48_fee_0 24 rfl rfl
theorem dksX48_fee_2 : cX48_fee.data.toList.drop 46 = dktX48_fee_2 := dk_seg dksX48_fee_1 22 rfl rfl
theorem dksX48_fee_3 : cX48_fee.data.toList.drop 70 = dktX48_fee_3 := dk_seg dksX48_fee_2 24 rfl rfl
theorem dksX48_fee_4 : cX48_fee.data.toList.drop 92 = dktX48_fee_4 := dk_seg dksX48_fee_3 22 rfl rfl
theorem dX48_fee_0 : decode cX48_fee 0 = .ok (.lload_n 2, 1) := dk_32 (dk_at dksX48_fee_0 0 rfl rfl)
theorem dX48_fee_1 : decode cX48_fee 1 = .ok (.lconst 0, 1) := dk_9 (dk_at dksX48_fee_0 1 rfl rfl)
theorem dX48_fee_2 : decode cX48_fee 2 = .ok (.lcmp, 1) := dk_148 (dk_at dksX48_fee_0 2 rfl rfl)
theorem dX48_fee_3 : decode cX48_fee 3 = .ok (.ifCond .lt 25, 3) := dk_155 0 25 (dk_at dksX48_fee_0 3 rfl rfl)
theorem dX48_fee_6 : decode cX48_fee 6 = .ok (.lload_n 2, 1) := dk_32 (dk_at dksX48_fee_0 6 rfl rfl)
theorem dX48_fee_7 : decode cX48_fee 7 = .ok (.ldc2_w 445, 3) := dk_20 1 189 (dk_at dksX48_fee_0 7 rfl rfl)
theorem dX48_fee_10 : decode cX48_fee 10 = .ok (.lcmp, 1) := dk_148 (dk_at dksX48_fee_0 10 rfl rfl)
theorem dX48_fee_11 : decode cX48_fee 11 = .ok (.ifCond .gt 17, 3) := dk_157 0 17 (dk_at dksX48_fee_0 11 rfl rfl)
theorem dX48_fee_14 : decode cX48_fee 14 = .ok (.aload_n 0, 1) := dk_42 (dk_at dksX48_fee_0 14 rfl rfl)
theorem dX48_fee_15 : decode cX48_fee 15 = .ok (.getfield 10, 3) := dk_180 0 10 (dk_at dksX48_fee_0 15 rfl rfl)
theorem dX48_fee_18 : decode cX48_fee 18 = .ok (.iload_n 1, 1) := dk_27 (dk_at dksX48_fee_0 18 rfl rfl)
theorem dX48_fee_19 : decode cX48_fee 19 = .ok (.iconst 0, 1) := dk_3 (dk_at dksX48_fee_0 19 rfl rfl)
theorem dX48_fee_20 : decode cX48_fee 20 = .ok (.invokevirtual 447, 3) := dk_182 1 191 (dk_at dksX48_fee_0 20 rfl rfl)
theorem dX48_fee_23 : decode cX48_fee 23 = .ok (.lconst 0, 1) := dk_9 (dk_at dksX48_fee_0 23 rfl rfl)
theorem dX48_fee_24 : decode cX48_fee 24 = .ok (.lcmp, 1) := dk_148 (dk_at dksX48_fee_1 0 rfl rfl)
theorem dX48_fee_25 : decode cX48_fee 25 = .ok (.ifCond .ge 7, 3) := dk_156 0 7 (dk_at dksX48_fee_1 1 rfl rfl)
theorem dX48_fee_28 : decode cX48_fee 28 = .ok (.ldc2_w 234, 3) := dk_20 0 234 (dk_at dksX48_fee_1 4 rfl rfl)
theorem dX48_fee_31 : decode cX48_fee 31 = .ok (.lreturn, 1) := dk_173 (dk_at dksX48_fee_1 7 rfl rfl)
theorem dX48_fee_32 : decode cX48_fee 32 = .ok (.lconst 0, 1) := dk_9 (dk_at dksX48_fee_1 8 rfl rfl)
theorem dX48_fee_33 : decode cX48_fee 33 = .ok (.lstore 4, 2) := dk_55 4 (dk_at dksX48_fee_1 9 rfl rfl)
theorem dX48_fee_35 : decode cX48_fee 35 = .ok (.iconst 0, 1) := dk_3 (dk_at dksX48_fee_1 11 rfl rfl)
theorem dX48_fee_36 : decode cX48_fee 36 = .ok (.istore 6, 2) := dk_54 6 (dk_at dksX48_fee_1 12 rfl rfl)
theorem dX48_fee_38 : decode cX48_fee 38 = .ok (.iload 6, 2) := dk_21 6 (dk_at dksX48_fee_1 14 rfl rfl)
theorem dX48_fee_40 : decode cX48_fee 40 = .ok (.bipush 8, 2) := dk_16 8 (dk_at dksX48_fee_1 16 rfl rfl)
theorem dX48_fee_42 : decode cX48_fee 42 = .ok (.if_icmp .ge 53, 3) := dk_162 0 53 (dk_at dksX48_fee_1 18 rfl rfl)
theorem dX48_fee_45 : decode cX48_fee 45 = .ok (.aload_n 0, 1) := dk_42 (dk_at dksX48_fee_1 21 rfl rfl)
theorem dX48_fee_46 : decode cX48_fee 46 = .ok (.getfield 10, 3) := dk_180 0 10 (dk_at dksX48_fee_2 0 rfl rfl)
theorem dX48_fee_49 : decode cX48_fee 49 = .ok (.iload_n 1, 1) := dk_27 (dk_at dksX48_fee_2 3 rfl rfl)
theorem dX48_fee_50 : decode cX48_fee 50 = .ok (.iload 6, 2) := dk_21 6 (dk_at dksX48_fee_2 4 rfl rfl)
theorem dX48_fee_52 : decode cX48_fee 52 = .ok (.invokevirtual 447, 3) := dk_182 1 191 (dk_at dksX48_fee_2 6 rfl rfl)
theorem dX48_fee_55 : decode cX48_fee 55 = .ok (.lload_n 2, 1) := dk_32 (dk_at dksX48_fee_2 9 rfl rfl)
theorem dX48_fee_56 : decode cX48_fee 56 = .ok (.lmul, 1) := dk_105 (dk_at dksX48_fee_2 10 rfl rfl)
theorem dX48_fee_57 : decode cX48_fee 57 = .ok (.ldc2_w 381, 3) := dk_20 1 125 (dk_at dksX48_fee_2 11 rfl rfl)
theorem dX48_fee_60 : decode cX48_fee 60 = .ok (.ldiv, 1) := dk_109 (dk_at dksX48_fee_2 14 rfl rfl)
theorem dX48_fee_61 : decode cX48_fee 61 = .ok (.lstore 7, 2) := dk_55 7 (dk_at dksX48_fee_2 15 rfl rfl)
theorem dX48_fee_63 : decode cX48_fee 63 = .ok (.lload 7, 2) := dk_22 7 (dk_at dksX48_fee_2 17 rfl rfl)
theorem dX48_fee_65 : decode cX48_fee 65 = .ok (.lconst 0, 1) := dk_9 (dk_at dksX48_fee_2 19 rfl rfl)
theorem dX48_fee_66 : decode cX48_fee 66 = .ok (.lcmp, 1) := dk_148 (dk_at dksX48_fee_2 20 rfl rfl)
theorem dX48_fee_67 : decode cX48_fee 67 = .ok (.ifCond .le 22, 3) := dk_158 0 22 (dk_at dksX48_fee_2 21 rfl rfl)
theorem dX48_fee_70 : decode cX48_fee 70 = .ok (.aload_n 0, 1) := dk_42 (dk_at dksX48_fee_3 0 rfl rfl)
theorem dX48_fee_71 : decode cX48_fee 71 = .ok (.bipush 8, 2) := dk_16 8 (dk_at dksX48_fee_3 1 rfl rfl)
theorem dX48_fee_73 : decode cX48_fee 73 = .ok (.iload 6, 2) := dk_21 6 (dk_at dksX48_fee_3 3 rfl rfl)
theorem dX48_fee_75 : decode cX48_fee 75 = .ok (.iadd, 1) := dk_96 (dk_at dksX48_fee_3 5 rfl rfl)
theorem dX48_fee_76 : decode cX48_fee 76 = .ok (.iconst 4, 1) := dk_7 (dk_at dksX48_fee_3 6 rfl rfl)
theorem dX48_fee_77 : decode cX48_fee 77 = .ok (.lload 7, 2) := dk_22 7 (dk_at dksX48_fee_3 7 rfl rfl)
theorem dX48_fee_79 : decode cX48_fee 79 = .ok (.invokevirtual 374, 3) := dk_182 1 118 (dk_at dksX48_fee_3 9 rfl rfl)
theorem dX48_fee_82 : decode cX48_fee 82 = .ok (.lload 4, 2) := dk_22 4 (dk_at dksX48_fee_3 12 rfl rfl)
theorem dX48_fee_84 : decode cX48_fee 84 = .ok (.lload 7, 2) := dk_22 7 (dk_at dksX48_fee_3 14 rfl rfl)
theorem dX48_fee_86 : decode cX48_fee 86 = .ok (.ladd, 1) := dk_97 (dk_at dksX48_fee_3 16 rfl rfl)
theorem dX48_fee_87 : decode cX48_fee 87 = .ok (.lstore 4, 2) := dk_55 4 (dk_at dksX48_fee_3 17 rfl rfl)
theorem dX48_fee_89 : decode cX48_fee 89 = .ok (.iinc 6 1, 3) := dk_132 6 1 (dk_at dksX48_fee_3 19 rfl rfl)
theorem dX48_fee_92 : decode cX48_fee 92 = .ok (.goto (-54), 3) := dk_167 255 202 (dk_at dksX48_fee_4 0 rfl rfl)
theorem dX48_fee_95 : decode cX48_fee 95 = .ok (.lload 4, 2) := dk_22 4 (dk_at dksX48_fee_4 3 rfl rfl)
theorem dX48_fee_97 : decode cX48_fee 97 = .ok (.lreturn, 1) := dk_173 (dk_at dksX48_fee_4 5 rfl rfl)
abbrev cX48_account : ByteArray := prog_56_method_21_code
def yX48_account : MethodName := ⟨RX48, "account", "(I)J"⟩
def dkwX48_account_1 : List UInt8 := [9, 173]
abbrev dktX48_account_1 : List UInt8 := dkwX48_account_1 ++ []
def dkwX48_account_0 : List UInt8 := [42, 3, 181, 0, 124, 27, 155, 0, 18, 27, 16, 16, 162, 0, 12, 42, 180, 0, 109, 27, 47, 167, 0, 4]
abbrev dktX48_account_0 : List UInt8 := dkwX48_account_0 ++ dktX48_account_1
theorem dksX48_account_0 : cX48_account.data.toList.drop 0 = dktX48_account_0 := by decide +kernel
theorem dksX48_account_1 : cX48_account.data.toList.drop 24 = dktX48_account_1 := dk_seg dksX48_account_0 24 rfl rfl
theorem dX48_account_0 : decode cX48_account 0 = .ok (.aload_n 0, 1) := dk_42 (dk_at dksX48_account_0 0 rfl rfl)
theorem dX48_account_1 : decode cX48_account 1 = .ok (.iconst 0, 1) := dk_3 (dk_at dksX48_account_0 1 rfl rfl)
theorem dX48_account_2 : decode cX48_account 2 = .ok (.putfield 124, 3) := dk_181 0 124 (dk_at dksX48_account_0 2 rfl rfl)
theorem dX48_account_5 : decode cX48_account 5 = .ok (.iload_n 1, 1) := dk_27 (dk_at dksX48_account_0 5 rfl rfl)
theorem dX48_account_6 : decode cX48_account 6 = .ok (.ifCond .lt 18, 3) := dk_155 0 18 (dk_at dksX48_account_0 6 rfl rfl)
theorem dX48_account_9 : decode cX48_account 9 = .ok (.iload_n 1, 1) := dk_27 (dk_at dksX48_account_0 9 rfl rfl)
theorem dX48_account_10 : decode cX48_account 10 = .ok (.bipush 16, 2) := dk_16 16 (dk_at dksX48_account_0 10 rfl rfl)
theorem dX48_account_12 : decode cX48_account 12 = .ok (.if_icmp .ge 12, 3) := dk_162 0 12 (dk_at dksX48_account_0 12 rfl rfl)
theorem dX48_account_15 : decode cX48_account 15 = .ok (.aload_n 0, 1) := dk_42 (dk_at dksX48_account_0 15 rfl rfl)
theorem dX48_account_16 : decode cX48_account 16 = .ok (.getfield 109, 3) := dk_180 0 109 (dk_at dksX48_account_0 16 rfl rfl)
theorem dX48_account_19 : decode cX48_account 19 = .ok (.iload_n 1, 1) := dk_27 (dk_at dksX48_account_0 19 rfl rfl)
theorem dX48_account_20 : decode cX48_account 20 = .ok (.laload, 1) := dk_47 (dk_at dksX48_account_0 20 rfl rfl)
theorem dX48_account_21 : decode cX48_account 21 = .ok (.goto 4, 3) := dk_167 0 4 (dk_at dksX48_account_0 21 rfl rfl)
theorem dX48_account_24 : decode cX48_account 24 = .ok (.lconst 0, 1) := dk_9 (dk_at dksX48_account_1 0 rfl rfl)
theorem dX48_account_25 : decode cX48_account 25 = .ok (.lreturn, 1) := dk_173 (dk_at dksX48_account_1 1 rfl rfl)
abbrev cX48_entry : ByteArray := prog_56_method_28_code
def yX48_entry : MethodName := ⟨RX48, "entry", "(II)J"⟩
def dkwX48_entry_2 : List UInt8 := [133, 167, 0, 20, 28, 5, 160, 0, 12, 42, 180, 0, 118, 27, 47, 167, 0, 6, 20, 0, 234, 173]
abbrev dktX48_entry_2 : List UInt8 := dkwX48_entry_2 ++ []
def dkwX48_entry_1 : List UInt8 := [154, 0, 13, 42, 180, 0, 112, 27, 46, 133, 167, 0, 35, 28, 4, 160, 0, 13, 42, 180, 0, 115, 27, 46]
abbrev dktX48_entry_1 : List UInt8 := dkwX48_entry_1 ++ dktX48_entry_2
def dkwX48_entry_0 : List UInt8 := [27, 155, 0, 18, 27, 42, 180, 1, 0, 162, 0, 10, 27, 17, 1, 244, 161, 0, 7, 20, 0, 234, 173, 28]
abbrev dktX48_entry_0 : List UInt8 := dkwX48_entry_0 ++ dktX48_entry_1
theorem dksX48_entry_0 : cX48_entry.data.toList.drop 0 = dktX48_entry_0 := by decide +kernel
theorem dksX48_entry_1 : cX48_entry.data.toList.drop 24 = dktX48_entry_1 := dk_seg dksX48_entry_0 24 rfl rfl
theorem dksX48_entry_2 : cX48_entry.data.toList.drop 48 = dktX48_entry_2 := dk_seg dksX48_entry_1 24 rfl rfl
theorem dX48_entry_0 : decode cX48_entry 0 = .ok (.iload_n 1, 1) := dk_27 (dk_at dksX48_entry_0 0 rfl rfl)
theorem dX48_entry_1 : decode cX48_entry 1 = .ok (.ifCond .lt 18, 3) := dk_155 0 18 (dk_at dksX48_entry_0 1 rfl rfl)
theorem dX48_entry_4 : decode cX48_entry 4 = .ok (.iload_n 1, 1) := dk_27 (dk_at dksX48_entry_0 4 rfl rfl)
theorem dX48_entry_5 : decode cX48_entry 5 = .ok (.aload_n 0, 1) := dk_42 (dk_at dksX48_entry_0 5 rfl rfl)
theorem dX48_entry_6 : decode cX48_entry 6 = .ok (.getfield 256, 3) := dk_180 1 0 (dk_at dksX48_entry_0 6 rfl rfl)
theorem dX48_entry_9 : decode cX48_entry 9 = .ok (.if_icmp .ge 10, 3) := dk_162 0 10 (dk_at dksX48_entry_0 9 rfl rfl)
theorem dX48_entry_12 : decode cX48_entry 12 = .ok (.iload_n 1, 1) := dk_27 (dk_at dksX48_entry_0 12 rfl rfl)
theorem dX48_entry_13 : decode cX48_entry 13 = .ok (.sipush 500, 3) := dk_17 1 244 (dk_at dksX48_entry_0 13 rfl rfl)
theorem dX48_entry_16 : decode cX48_entry 16 = .ok (.if_icmp .lt 7, 3) := dk_161 0 7 (dk_at dksX48_entry_0 16 rfl rfl)
theorem dX48_entry_19 : decode cX48_entry 19 = .ok (.ldc2_w 234, 3) := dk_20 0 234 (dk_at dksX48_entry_0 19 rfl rfl)
theorem dX48_entry_22 : decode cX48_entry 22 = .ok (.lreturn, 1) := dk_173 (dk_at dksX48_entry_0 22 rfl rfl)
theorem dX48_entry_23 : decode cX48_entry 23 = .ok (.iload_n 2, 1) := dk_28 (dk_at dksX48_entry_0 23 rfl rfl)
theorem dX48_entry_24 : decode cX48_entry 24 = .ok (.ifCond .ne 13, 3) := dk_154 0 13 (dk_at dksX48_entry_1 0 rfl rfl)
theorem dX48_entry_27 : decode cX48_entry 27 = .ok (.aload_n 0, 1) := dk_42 (dk_at dksX48_entry_1 3 rfl rfl)
theorem dX48_entry_28 : decode cX48_entry 28 = .ok (.getfield 112, 3) := dk_180 0 112 (dk_at dksX48_entry_1 4 rfl rfl)
theorem dX48_entry_31 : decode cX48_entry 31 = .ok (.iload_n 1, 1) := dk_27 (dk_at dksX48_entry_1 7 rfl rfl)
theorem dX48_entry_32 : decode cX48_entry 32 = .ok (.iaload, 1) := dk_46 (dk_at dksX48_entry_1 8 rfl rfl)
theorem dX48_entry_33 : decode cX48_entry 33 = .ok (.i2l, 1) := dk_133 (dk_at dksX48_entry_1 9 rfl rfl)
theorem dX48_entry_34 : decode cX48_entry 34 = .ok (.goto 35, 3) := dk_167 0 35 (dk_at dksX48_entry_1 10 rfl rfl)
theorem dX48_entry_37 : decode cX48_entry 37 = .ok (.iload_n 2, 1) := dk_28 (dk_at dksX48_entry_1 13 rfl rfl)
theorem dX48_entry_38 : decode cX48_entry 38 = .ok (.iconst 1, 1) := dk_4 (dk_at dksX48_entry_1 14 rfl rfl)
theorem dX48_entry_39 : decode cX48_entry 39 = .ok (.if_icmp .ne 13, 3) := dk_160 0 13 (dk_at dksX48_entry_1 15 rfl rfl)
theorem dX48_entry_42 : decode cX48_entry 42 = .ok (.aload_n 0, 1) := dk_42 (dk_at dksX48_entry_1 18 rfl rfl)
theorem dX48_entry_43 : decode cX48_entry 43 = .ok (.getfield 115, 3) := dk_180 0 115 (dk_at dksX48_entry_1 19 rfl rfl)
theorem dX48_entry_46 : decode cX48_entry 46 = .ok (.iload_n 1, 1) := dk_27 (dk_at dksX48_entry_1 22 rfl rfl)
theorem dX48_entry_47 : decode cX48_entry 47 = .ok (.iaload, 1) := dk_46 (dk_at dksX48_entry_1 23 rfl rfl)
theorem dX48_entry_48 : decode cX48_entry 48 = .ok (.i2l, 1) := dk_133 (dk_at dksX48_entry_2 0 rfl rfl)
theorem dX48_entry_49 : decode cX48_entry 49 = .ok (.goto 20, 3) := dk_167 0 20 (dk_at dksX48_entry_2 1 rfl rfl)
theorem dX48_entry_52 : decode cX48_entry 52 = .ok (.iload_n 2, 1) := dk_28 (dk_at dksX48_entry_2 4 rfl rfl)
theorem dX48_entry_53 : decode cX48_entry 53 = .ok (.iconst 2, 1) := dk_5 (dk_at dksX48_entry_2 5 rfl rfl)
theorem dX48_entry_54 : decode cX48_entry 54 = .ok (.if_icmp .ne 12, 3) := dk_160 0 12 (dk_at dksX48_entry_2 6 rfl rfl)
theorem dX48_entry_57 : decode cX48_entry 57 = .ok (.aload_n 0, 1) := dk_42 (dk_at dksX48_entry_2 9 rfl rfl)
theorem dX48_entry_58 : decode cX48_entry 58 = .ok (.getfield 118, 3) := dk_180 0 118 (dk_at dksX48_entry_2 10 rfl rfl)
theorem dX48_entry_61 : decode cX48_entry 61 = .ok (.iload_n 1, 1) := dk_27 (dk_at dksX48_entry_2 13 rfl rfl)
theorem dX48_entry_62 : decode cX48_entry 62 = .ok (.laload, 1) := dk_47 (dk_at dksX48_entry_2 14 rfl rfl)
theorem dX48_entry_63 : decode cX48_entry 63 = .ok (.goto 6, 3) := dk_167 0 6 (dk_at dksX48_entry_2 15 rfl rfl)
theorem dX48_entry_66 : decode cX48_entry 66 = .ok (.ldc2_w 234, 3) := dk_20 0 234 (dk_at dksX48_entry_2 18 rfl rfl)
theorem dX48_entry_69 : decode cX48_entry 69 = .ok (.lreturn, 1) := dk_173 (dk_at dksX48_entry_2 21 rfl rfl)
abbrev cX48_sound : ByteArray := prog_56_method_22_code
def yX48_sound : MethodName := ⟨RX48, "sound", "()Z"⟩
def dkwX48_sound_2 : List UInt8 := [180, 0, 42, 182, 0, 240, 153, 0, 7, 4, 167, 0, 4, 3, 172]
abbrev dktX48_sound_2 : List UInt8 := dkwX48_sound_2 ++ []
def dkwX48_sound_1 : List UInt8 := [132, 3, 1, 167, 255, 238, 42, 180, 0, 10, 3, 182, 0, 236, 154, 0, 23, 31, 9, 148, 154, 0, 17, 42]
abbrev dktX48_sound_1 : List UInt8 := dkwX48_sound_1 ++ dktX48_sound_2
def dkwX48_sound_0 : List UInt8 := [42, 3, 181, 0, 124, 9, 64, 3, 62, 29, 16, 16, 162, 0, 18, 31, 42, 180, 0, 109, 29, 47, 97, 64]
abbrev dktX48_sound_0 : List UInt8 := dkwX48_sound_0 ++ dktX48_sound_1
theorem dksX48_sound_0 : cX48_sound.data.toList.drop 0 = dktX48_sound_0 := by decide +kernel
theorem dksX48_sound_1 : cX48_sound.data.toList.drop 24 = dktX48_sound_1 := dk_seg dksX48_sound_0 24 rfl rfl
theorem dksX48_sound_2 : cX48_sound.data.toList.drop 48 = dktX48_sound_2 := dk_seg dksX48_sound_1 24 rfl rfl
theorem dX48_sound_0 : decode cX48_sound 0 = .ok (.aload_n 0, 1) := dk_42 (dk_at dksX48_sound_0 0 rfl rfl)
theorem dX48_sound_1 : decode cX48_sound 1 = .ok (.iconst 0, 1) := dk_3 (dk_at dksX48_sound_0 1 rfl rfl)
theorem dX48_sound_2 : decode cX48_sound 2 = .ok (.putfield 124, 3) := dk_181 0 124 (dk_at dksX48_sound_0 2 rfl rfl)
theorem dX48_sound_5 : decode cX48_sound 5 = .ok (.lconst 0, 1) := dk_9 (dk_at dksX48_sound_0 5 rfl rfl)
theorem dX48_sound_6 : decode cX48_sound 6 = .ok (.lstore_n 1, 1) := dk_64 (dk_at dksX48_sound_0 6 rfl rfl)
theorem dX48_sound_7 : decode cX48_sound 7 = .ok (.iconst 0, 1) := dk_3 (dk_at dksX48_sound_0 7 rfl rfl)
theorem dX48_sound_8 : decode cX48_sound 8 = .ok (.istore_n 3, 1) := dk_62 (dk_at dksX48_sound_0 8 rfl rfl)
theorem dX48_sound_9 : decode cX48_sound 9 = .ok (.iload_n 3, 1) := dk_29 (dk_at dksX48_sound_0 9 rfl rfl)
theorem dX48_sound_10 : decode cX48_sound 10 = .ok (.bipush 16, 2) := dk_16 16 (dk_at dksX48_sound_0 10 rfl rfl)
theorem dX48_sound_12 : decode cX48_sound 12 = .ok (.if_icmp .ge 18, 3) := dk_162 0 18 (dk_at dksX48_sound_0 12 rfl rfl)
theorem dX48_sound_15 : decode cX48_sound 15 = .ok (.lload_n 1, 1) := dk_31 (dk_at dksX48_sound_0 15 rfl rfl)
theorem dX48_sound_16 : decode cX48_sound 16 = .ok (.aload_n 0, 1) := dk_42 (dk_at dksX48_sound_0 16 rfl rfl)
theorem dX48_sound_17 : decode cX48_sound 17 = .ok (.getfield 109, 3) := dk_180 0 109 (dk_at dksX48_sound_0 17 rfl rfl)
theorem dX48_sound_20 : decode cX48_sound 20 = .ok (.iload_n 3, 1) := dk_29 (dk_at dksX48_sound_0 20 rfl rfl)
theorem dX48_sound_21 : decode cX48_sound 21 = .ok (.laload, 1) := dk_47 (dk_at dksX48_sound_0 21 rfl rfl)
theorem dX48_sound_22 : decode cX48_sound 22 = .ok (.ladd, 1) := dk_97 (dk_at dksX48_sound_0 22 rfl rfl)
theorem dX48_sound_23 : decode cX48_sound 23 = .ok (.lstore_n 1, 1) := dk_64 (dk_at dksX48_sound_0 23 rfl rfl)
theorem dX48_sound_24 : decode cX48_sound 24 = .ok (.iinc 3 1, 3) := dk_132 3 1 (dk_at dksX48_sound_1 0 rfl rfl)
theorem dX48_sound_27 : decode cX48_sound 27 = .ok (.goto (-18), 3) := dk_167 255 238 (dk_at dksX48_sound_1 3 rfl rfl)
theorem dX48_sound_30 : decode cX48_sound 30 = .ok (.aload_n 0, 1) := dk_42 (dk_at dksX48_sound_1 6 rfl rfl)
theorem dX48_sound_31 : decode cX48_sound 31 = .ok (.getfield 10, 3) := dk_180 0 10 (dk_at dksX48_sound_1 7 rfl rfl)
theorem dX48_sound_34 : decode cX48_sound 34 = .ok (.iconst 0, 1) := dk_3 (dk_at dksX48_sound_1 10 rfl rfl)
theorem dX48_sound_35 : decode cX48_sound 35 = .ok (.invokevirtual 236, 3) := dk_182 0 236 (dk_at dksX48_sound_1 11 rfl rfl)
theorem dX48_sound_38 : decode cX48_sound 38 = .ok (.ifCond .ne 23, 3) := dk_154 0 23 (dk_at dksX48_sound_1 14 rfl rfl)
theorem dX48_sound_41 : decode cX48_sound 41 = .ok (.lload_n 1, 1) := dk_31 (dk_at dksX48_sound_1 17 rfl rfl)
theorem dX48_sound_42 : decode cX48_sound 42 = .ok (.lconst 0, 1) := dk_9 (dk_at dksX48_sound_1 18 rfl rfl)
theorem dX48_sound_43 : decode cX48_sound 43 = .ok (.lcmp, 1) := dk_148 (dk_at dksX48_sound_1 19 rfl rfl)
theorem dX48_sound_44 : decode cX48_sound 44 = .ok (.ifCond .ne 17, 3) := dk_154 0 17 (dk_at dksX48_sound_1 20 rfl rfl)
theorem dX48_sound_47 : decode cX48_sound 47 = .ok (.aload_n 0, 1) := dk_42 (dk_at dksX48_sound_1 23 rfl rfl)
theorem dX48_sound_48 : decode cX48_sound 48 = .ok (.getfield 42, 3) := dk_180 0 42 (dk_at dksX48_sound_2 0 rfl rfl)
theorem dX48_sound_51 : decode cX48_sound 51 = .ok (.invokevirtual 240, 3) := dk_182 0 240 (dk_at dksX48_sound_2 3 rfl rfl)
theorem dX48_sound_54 : decode cX48_sound 54 = .ok (.ifCond .eq 7, 3) := dk_153 0 7 (dk_at dksX48_sound_2 6 rfl rfl)
theorem dX48_sound_57 : decode cX48_sound 57 = .ok (.iconst 1, 1) := dk_4 (dk_at dksX48_sound_2 9 rfl rfl)
theorem dX48_sound_58 : decode cX48_sound 58 = .ok (.goto 4, 3) := dk_167 0 4 (dk_at dksX48_sound_2 10 rfl rfl)
theorem dX48_sound_61 : decode cX48_sound 61 = .ok (.iconst 0, 1) := dk_3 (dk_at dksX48_sound_2 13 rfl rfl)
theorem dX48_sound_62 : decode cX48_sound 62 = .ok (.ireturn, 1) := dk_172 (dk_at dksX48_sound_2 14 rfl rfl)
abbrev cX48_flag : ByteArray := prog_56_method_10_code
def yX48_flag : MethodName := ⟨RX48, "flag", "(Z)J"⟩
def dkwX48_flag_0 : List UInt8 := [26, 153, 0, 7, 10, 167, 0, 4, 9, 173]
abbrev dktX48_flag_0 : List UInt8 := dkwX48_flag_0 ++ []
theorem dksX48_flag_0 : cX48_flag.data.toList.drop 0 = dktX48_flag_0 := by decide +kernel
theorem dX48_flag_0 : decode cX48_flag 0 = .ok (.iload_n 0, 1) := dk_26 (dk_at dksX48_flag_0 0 rfl rfl)
theorem dX48_flag_1 : decode cX48_flag 1 = .ok (.ifCond .eq 7, 3) := dk_153 0 7 (dk_at dksX48_flag_0 1 rfl rfl)
theorem dX48_flag_4 : decode cX48_flag 4 = .ok (.lconst 1, 1) := dk_10 (dk_at dksX48_flag_0 4 rfl rfl)
theorem dX48_flag_5 : decode cX48_flag 5 = .ok (.goto 4, 3) := dk_167 0 4 (dk_at dksX48_flag_0 5 rfl rfl)
theorem dX48_flag_8 : decode cX48_flag 8 = .ok (.lconst 0, 1) := dk_9 (dk_at dksX48_flag_0 8 rfl rfl)
theorem dX48_flag_9 : decode cX48_flag 9 = .ok (.lreturn, 1) := dk_173 (dk_at dksX48_flag_0 9 rfl rfl)
abbrev cX48_none : ByteArray := prog_56_method_11_code
def yX48_none : MethodName := ⟨RX48, "none", "()J"⟩
def dkwX48_none_0 : List UInt8 := [42, 180, 0, 164, 154, 0, 8, 42, 4, 181, 0, 167, 9, 173]
abbrev dktX48_none_0 : List UInt8 := dkwX48_none_0 ++ []
theorem dksX48_none_0 : cX48_none.data.toList.drop 0 = dktX48_none_0 := by decide +kernel
theorem dX48_none_0 : decode cX48_none 0 = .ok (.aload_n 0, 1) := dk_42 (dk_at dksX48_none_0 0 rfl rfl)
theorem dX48_none_1 : decode cX48_none 1 = .ok (.getfield 164, 3) := dk_180 0 164 (dk_at dksX48_none_0 1 rfl rfl)
theorem dX48_none_4 : decode cX48_none 4 = .ok (.ifCond .ne 8, 3) := dk_154 0 8 (dk_at dksX48_none_0 4 rfl rfl)
theorem dX48_none_7 : decode cX48_none 7 = .ok (.aload_n 0, 1) := dk_42 (dk_at dksX48_none_0 7 rfl rfl)
theorem dX48_none_8 : decode cX48_none 8 = .ok (.iconst 1, 1) := dk_4 (dk_at dksX48_none_0 8 rfl rfl)
theorem dX48_none_9 : decode cX48_none 9 = .ok (.putfield 167, 3) := dk_181 0 167 (dk_at dksX48_none_0 9 rfl rfl)
theorem dX48_none_12 : decode cX48_none 12 = .ok (.lconst 0, 1) := dk_9 (dk_at dksX48_none_0 12 rfl rfl)
theorem dX48_none_13 : decode cX48_none 13 = .ok (.lreturn, 1) := dk_173 (dk_at dksX48_none_0 13 rfl rfl)
abbrev cX48_tickets : ByteArray := prog_56_method_38_code
def yX48_tickets : MethodName := ⟨RX48, "tickets", "()J"⟩
def dkwX48_tickets_34 : List UInt8 := [3, 47, 136, 42, 180, 0, 99, 4, 47, 136, 182, 2, 3, 133, 167, 0, 4, 9, 173, 42, 182, 1, 76, 173]
abbrev dktX48_tickets_34 : List UInt8 := dkwX48_tickets_34 ++ []
def dkwX48_tickets_33 : List UInt8 := [19, 1, 36, 182, 1, 7, 153, 0, 37, 42, 180, 0, 167, 156, 0, 28, 42, 180, 0, 10, 42, 180, 0, 99]
abbrev dktX48_tickets_33 : List UInt8 := dkwX48_tickets_33 ++ dktX48_tickets_34
def dkwX48_tickets_32 : List UInt8 := [180, 0, 10, 42, 180, 0, 99, 3, 47, 136, 182, 0, 236, 133, 167, 0, 4, 9, 173, 42, 19, 2, 1]
abbrev dktX48_tickets_32 : List UInt8 := dkwX48_tickets_32 ++ dktX48_tickets_33
def dkwX48_tickets_31 : List UInt8 := [9, 173, 42, 19, 2, 0, 19, 1, 22, 182, 1, 7, 153, 0, 30, 42, 180, 0, 167, 156, 0, 21, 42]
abbrev dktX48_tickets_31 : List UInt8 := dkwX48_tickets_31 ++ dktX48_tickets_32
def dkwX48_tickets_30 : List UInt8 := [180, 0, 10, 42, 180, 0, 99, 3, 47, 136, 42, 180, 0, 99, 4, 47, 136, 182, 1, 254, 133, 167, 0, 4]
abbrev dktX48_tickets_30 : List UInt8 := dkwX48_tickets_30 ++ dktX48_tickets_31
def dkwX48_tickets_29 : List UInt8 := [9, 173, 42, 19, 1, 252, 19, 1, 36, 182, 1, 7, 153, 0, 37, 42, 180, 0, 167, 156, 0, 28, 42]
abbrev dktX48_tickets_29 : List UInt8 := dkwX48_tickets_29 ++ dktX48_tickets_30
def dkwX48_tickets_28 : List UInt8 := [180, 0, 10, 42, 180, 0, 99, 3, 47, 136, 42, 180, 0, 99, 4, 47, 136, 182, 1, 249, 133, 167, 0, 4]
abbrev dktX48_tickets_28 : List UInt8 := dkwX48_tickets_28 ++ dktX48_tickets_29
def dkwX48_tickets_27 : List UInt8 := [173, 42, 19, 1, 247, 19, 1, 36, 182, 1, 7, 153, 0, 37, 42, 180, 0, 167, 156, 0, 28, 42]
abbrev dktX48_tickets_27 : List UInt8 := dkwX48_tickets_27 ++ dktX48_tickets_28
def dkwX48_tickets_26 : List UInt8 := [42, 180, 0, 99, 4, 47, 136, 42, 180, 0, 99, 5, 47, 136, 182, 1, 244, 184, 1, 72, 167, 0, 4, 9]
abbrev dktX48_tickets_26 : List UInt8 := dkwX48_tickets_26 ++ dktX48_tickets_27
def dkwX48_tickets_25 : List UInt8 := [182, 1, 7, 153, 0, 46, 42, 180, 0, 167, 156, 0, 37, 42, 180, 0, 10, 42, 180, 0, 99, 3, 47, 136]
abbrev dktX48_tickets_25 : List UInt8 := dkwX48_tickets_25 ++ dktX48_tickets_26
def dkwX48_tickets_24 : List UInt8 := [42, 180, 0, 99, 4, 47, 136, 182, 1, 238, 133, 167, 0, 4, 9, 173, 42, 19, 1, 240, 19, 1, 242]
abbrev dktX48_tickets_24 : List UInt8 := dkwX48_tickets_24 ++ dktX48_tickets_25
def dkwX48_tickets_23 : List UInt8 := [182, 1, 7, 153, 0, 37, 42, 180, 0, 167, 156, 0, 28, 42, 180, 0, 10, 42, 180, 0, 99, 3, 47, 136]
abbrev dktX48_tickets_23 : List UInt8 := dkwX48_tickets_23 ++ dktX48_tickets_24
def dkwX48_tickets_22 : List UInt8 := [42, 180, 0, 99, 4, 47, 136, 182, 1, 191, 167, 0, 4, 9, 173, 42, 19, 1, 237, 19, 1, 36]
abbrev dktX48_tickets_22 : List UInt8 := dkwX48_tickets_22 ++ dktX48_tickets_23
def dkwX48_tickets_21 : List UInt8 := [182, 1, 7, 153, 0, 36, 42, 180, 0, 167, 156, 0, 27, 42, 180, 0, 10, 42, 180, 0, 99, 3, 47, 136]
abbrev dktX48_tickets_21 : List UInt8 := dkwX48_tickets_21 ++ dktX48_tickets_22
def dkwX48_tickets_20 : List UInt8 := [180, 0, 99, 5, 47, 182, 1, 234, 184, 1, 72, 167, 0, 4, 9, 173, 42, 19, 1, 236, 19, 1, 36]
abbrev dktX48_tickets_20 : List UInt8 := dkwX48_tickets_20 ++ dktX48_tickets_21
def dkwX48_tickets_19 : List UInt8 := [156, 0, 36, 42, 180, 0, 10, 42, 180, 0, 99, 3, 47, 136, 42, 180, 0, 99, 4, 47, 136, 42]
abbrev dktX48_tickets_19 : List UInt8 := dkwX48_tickets_19 ++ dktX48_tickets_20
def dkwX48_tickets_18 : List UInt8 := [167, 0, 4, 9, 173, 42, 19, 1, 233, 19, 1, 195, 182, 1, 7, 153, 0, 45, 42, 180, 0, 167]
abbrev dktX48_tickets_18 : List UInt8 := dkwX48_tickets_18 ++ dktX48_tickets_19
def dkwX48_tickets_17 : List UInt8 := [19, 1, 16, 182, 1, 7, 153, 0, 23, 42, 180, 0, 167, 156, 0, 14, 42, 180, 0, 10, 182, 1, 231, 133]
abbrev dktX48_tickets_17 : List UInt8 := dkwX48_tickets_17 ++ dktX48_tickets_18
def dkwX48_tickets_16 : List UInt8 := [180, 0, 167, 156, 0, 14, 42, 180, 0, 10, 182, 1, 227, 133, 167, 0, 4, 9, 173, 42, 19, 1, 229]
abbrev dktX48_tickets_16 : List UInt8 := dkwX48_tickets_16 ++ dktX48_tickets_17
def dkwX48_tickets_15 : List UInt8 := [182, 1, 223, 133, 167, 0, 4, 9, 173, 42, 19, 1, 225, 19, 1, 16, 182, 1, 7, 153, 0, 23, 42]
abbrev dktX48_tickets_15 : List UInt8 := dkwX48_tickets_15 ++ dktX48_tickets_16
def dkwX48_tickets_14 : List UInt8 := [182, 1, 7, 153, 0, 30, 42, 180, 0, 167, 156, 0, 21, 42, 180, 0, 10, 42, 180, 0, 99, 3, 47, 136]
abbrev dktX48_tickets_14 : List UInt8 := dkwX48_tickets_14 ++ dktX48_tickets_15
def dkwX48_tickets_13 : List UInt8 := [180, 0, 99, 3, 47, 136, 182, 1, 219, 133, 167, 0, 4, 9, 173, 42, 19, 1, 221, 19, 1, 22]
abbrev dktX48_tickets_13 : List UInt8 := dkwX48_tickets_13 ++ dktX48_tickets_14
def dkwX48_tickets_12 : List UInt8 := [19, 1, 217, 19, 1, 22, 182, 1, 7, 153, 0, 30, 42, 180, 0, 167, 156, 0, 21, 42, 180, 0, 10, 42]
abbrev dktX48_tickets_12 : List UInt8 := dkwX48_tickets_12 ++ dktX48_tickets_13
def dkwX48_tickets_11 : List UInt8 := [180, 0, 99, 3, 47, 136, 42, 180, 0, 99, 4, 47, 136, 182, 1, 215, 167, 0, 4, 9, 173, 42]
abbrev dktX48_tickets_11 : List UInt8 := dkwX48_tickets_11 ++ dktX48_tickets_12
def dkwX48_tickets_10 : List UInt8 := [19, 1, 213, 19, 1, 36, 182, 1, 7, 153, 0, 36, 42, 180, 0, 167, 156, 0, 27, 42, 180, 0, 10, 42]
abbrev dktX48_tickets_10 : List UInt8 := dkwX48_tickets_10 ++ dktX48_tickets_11
def dkwX48_tickets_9 : List UInt8 := [180, 0, 99, 3, 47, 136, 42, 180, 0, 99, 4, 47, 136, 182, 1, 211, 133, 167, 0, 4, 9, 173, 42]
abbrev dktX48_tickets_9 : List UInt8 := dkwX48_tickets_9 ++ dktX48_tickets_10
def dkwX48_tickets_8 : List UInt8 := [19, 1, 209, 19, 1, 36, 182, 1, 7, 153, 0, 37, 42, 180, 0, 167, 156, 0, 28, 42, 180, 0, 10, 42]
abbrev dktX48_tickets_8 : List UInt8 := dkwX48_tickets_8 ++ dktX48_tickets_9
def dkwX48_tickets_7 : List UInt8 := [42, 180, 0, 99, 5, 47, 42, 180, 0, 99, 6, 47, 136, 182, 1, 206, 133, 167, 0, 4, 9, 173, 42]
abbrev dktX48_tickets_7 : List UInt8 := dkwX48_tickets_7 ++ dktX48_tickets_8
def dkwX48_tickets_6 : List UInt8 := [180, 0, 167, 156, 0, 41, 42, 180, 0, 10, 42, 180, 0, 99, 3, 47, 136, 42, 180, 0, 99, 4, 47, 136]
abbrev dktX48_tickets_6 : List UInt8 := dkwX48_tickets_6 ++ dktX48_tickets_7
def dkwX48_tickets_5 : List UInt8 := [136, 182, 1, 93, 133, 167, 0, 4, 9, 173, 42, 19, 1, 202, 19, 1, 204, 182, 1, 7, 153, 0, 50, 42]
abbrev dktX48_tickets_5 : List UInt8 := dkwX48_tickets_5 ++ dktX48_tickets_6
def dkwX48_tickets_4 : List UInt8 := [42, 180, 0, 99, 5, 47, 42, 180, 0, 99, 6, 47, 42, 180, 0, 99, 7, 47, 42, 180, 0, 99, 8, 47]
abbrev dktX48_tickets_4 : List UInt8 := dkwX48_tickets_4 ++ dktX48_tickets_5
def dkwX48_tickets_3 : List UInt8 := [180, 0, 167, 156, 0, 53, 42, 180, 0, 10, 42, 180, 0, 99, 3, 47, 136, 42, 180, 0, 99, 4, 47, 136]
abbrev dktX48_tickets_3 : List UInt8 := dkwX48_tickets_3 ++ dktX48_tickets_4
def dkwX48_tickets_2 : List UInt8 := [184, 1, 72, 167, 0, 4, 9, 173, 42, 19, 1, 199, 19, 1, 200, 182, 1, 7, 153, 0, 62, 42]
abbrev dktX48_tickets_2 : List UInt8 := dkwX48_tickets_2 ++ dktX48_tickets_3
def dkwX48_tickets_1 : List UInt8 := [42, 180, 0, 99, 3, 47, 136, 42, 180, 0, 99, 4, 47, 136, 42, 180, 0, 99, 5, 47, 182, 1, 197]
abbrev dktX48_tickets_1 : List UInt8 := dkwX48_tickets_1 ++ dktX48_tickets_2
def dkwX48_tickets_0 : List UInt8 := [42, 19, 1, 193, 19, 1, 195, 182, 1, 7, 153, 0, 45, 42, 180, 0, 167, 156, 0, 36, 42, 180, 0, 10]
abbrev dktX48_tickets_0 : List UInt8 := dkwX48_tickets_0 ++ dktX48_tickets_1
theorem dksX48_tickets_0 : cX48_tickets.data.toList.drop 0 = dktX48_tickets_0 := by decide +kernel
theorem dksX48_tickets_1 : cX48_tickets.data.toList.drop 24 = dktX48_tickets_1 := dk_seg dksX48_tickets_0 24 rfl rfl
theorem dksX48_tickets_2 : cX48_tickets.data.toList.drop 47 = dktX48_tickets_2 := dk_seg dksX48_tickets_1 23 rfl rfl
theorem dksX48_tickets_3 : cX48_tickets.data.toList.drop 69 = dktX48_tickets_3 := dk_seg dksX48_tickets_2 22 rfl rfl
theorem dksX48_tickets_4 : cX48_tickets.data.toList.drop 93 = dktX48_tickets_4 := dk_seg dksX48_tickets_3 24 rfl rfl
theorem dksX48_tickets_5 : cX48_tickets.data.toList.drop 117 = dktX48_tickets_5 := dk_seg dksX48_tickets_4 24 rfl rfl
theorem dksX48_tickets_6 : cX48_tickets.data.toList.drop 141 = dktX48_tickets_6 := dk_seg dksX48_tickets_5 24 rfl rfl
theorem dksX48_tickets_7 : cX48_tickets.data.toList.drop 165 = dktX48_tickets_7 := dk_seg dksX48_tickets_6 24 rfl rfl
theorem dksX48_tickets_8 : cX48_tickets.data.toList.drop 188 = dktX48_tickets_8 := dk_seg dksX48_tickets_7 23 rfl rfl
theorem dksX48_tickets_9 : cX48_tickets.data.toList.drop 212 = dktX48_tickets_9 := dk_seg dksX48_tickets_8 24 rfl rfl
theorem dksX48_tickets_10 : cX48_tickets.data.toList.drop 235 = dktX48_tickets_10 := dk_seg dksX48_tickets_9 23 rfl rfl
theorem dksX48_tickets_11 : cX48_tickets.data.toList.drop 259 = dktX48_tickets_11 := dk_seg dksX48_tickets_10 24 rfl rfl
theorem dksX48_tickets_12 : cX48_tickets.data.toList.drop 281 = dktX48_tickets_12 := dk_seg dksX48_tickets_11 22 rfl rfl
theorem dksX48_tickets_13 : cX48_tickets.data.toList.drop 305 = dktX48_tickets_13 := dk_seg dksX48_tickets_12 24 rfl rfl
theorem dksX48_tickets_14 : cX48_tickets.data.toList.drop 327 = dktX48_tickets_14 := dk_seg dksX48_tickets_13 22 rfl rfl
theorem dksX48_tickets_15 : cX48_tickets.data.toList.drop 351 = dktX48_tickets_15 := dk_seg dksX48_tickets_14 24 rfl rfl
theorem dksX48_tickets_16 : cX48_tickets.data.toList.drop 374 = dktX48_tickets_16 := dk_seg dksX48_tickets_15 23 rfl rfl
theorem dksX48_tickets_17 : cX48_tickets.data.toList.drop 397 = dktX48_tickets_17 := dk_seg dksX48_tickets_16 23 rfl rfl
theorem dksX48_tickets_18 : cX48_tickets.data.toList.drop 421 = dktX48_tickets_18 := dk_seg dksX48_tickets_17 24 rfl rfl
theorem dksX48_tickets_19 : cX48_tickets.data.toList.drop 443 = dktX48_tickets_19 := dk_seg dksX48_tickets_18 22 rfl rfl
theorem dksX48_tickets_20 : cX48_tickets.data.toList.drop 465 = dktX48_tickets_20 := dk_seg dksX48_tickets_19 22 rfl rfl
theorem dksX48_tickets_21 : cX48_tickets.data.toList.drop 488 = dktX48_tickets_21 := dk_seg dksX48_tickets_20 23 rfl rfl
theorem dksX48_tickets_22 : cX48_tickets.data.toList.drop 512 = dktX48_tickets_22 := dk_seg dksX48_tickets_21 24 rfl rfl
theorem dksX48_tickets_23 : cX48_tickets.data.toList.drop 534 = dktX48_tickets_23 := dk_seg dksX48_tickets_22 22 rfl rfl
theorem dksX48_tickets_24 : cX48_tickets.data.toList.drop 558 = dktX48_tickets_24 := dk_seg dksX48_tickets_23 24 rfl rfl
theorem dksX48_tickets_25 : cX48_tickets.data.toList.drop 581 = dktX48_tickets_25 := dk_seg dksX48_tickets_24 23 rfl rfl
theorem dksX48_tickets_26 : cX48_tickets.data.toList.drop 605 = dktX48_tickets_26 := dk_seg dksX48_tickets_25 24 rfl rfl
theorem dksX48_tickets_27 : cX48_tickets.data.toList.drop 629 = dktX48_tickets_27 := dk_seg dksX48_tickets_26 24 rfl rfl
theorem dksX48_tickets_28 : cX48_tickets.data.toList.drop 651 = dktX48_tickets_28 := dk_seg dksX48_tickets_27 22 rfl rfl
theorem dksX48_tickets_29 : cX48_tickets.data.toList.drop 675 = dktX48_tickets_29 := dk_seg dksX48_tickets_28 24 rfl rfl
theorem dksX48_tickets_30 : cX48_tickets.data.toList.drop 698 = dktX48_tickets_30 := dk_seg dksX48_tickets_29 23 rfl rfl
theorem dksX48_tickets_31 : cX48_tickets.data.toList.drop 722 = dktX48_tickets_31 := dk_seg dksX48_tickets_30 24 rfl rfl
theorem dksX48_tickets_32 : cX48_tickets.data.toList.drop 745 = dktX48_tickets_32 := dk_seg dksX48_tickets_31 23 rfl rfl
theorem dksX48_tickets_33 : cX48_tickets.data.toList.drop 768 = dktX48_tickets_33 := dk_seg dksX48_tickets_32 23 rfl rfl
theorem dksX48_tickets_34 : cX48_tickets.data.toList.drop 792 = dktX48_tickets_34 := dk_seg dksX48_tickets_33 24 rfl rfl
theorem dX48_tickets_0 : decode cX48_tickets 0 = .ok (.aload_n 0, 1) := dk_42 (dk_at dksX48_tickets_0 0 rfl rfl)
theorem dX48_tickets_1 : decode cX48_tickets 1 = .ok (.ldc_w 449, 3) := dk_19 1 193 (dk_at dksX48_tickets_0 1 rfl rfl)
theorem dX48_tickets_4 : decode cX48_tickets 4 = .ok (.ldc_w 451, 3) := dk_19 1 195 (dk_at dksX48_tickets_0 4 rfl rfl)
theorem dX48_tickets_7 : decode cX48_tickets 7 = .ok (.invokevirtual 263, 3) := dk_182 1 7 (dk_at dksX48_tickets_0 7 rfl rfl)
theorem dX48_tickets_10 : decode cX48_tickets 10 = .ok (.ifCond .eq 45, 3) := dk_153 0 45 (dk_at dksX48_tickets_0 10 rfl rfl)
theorem dX48_tickets_13 : decode cX48_tickets 13 = .ok (.aload_n 0, 1) := dk_42 (dk_at dksX48_tickets_0 13 rfl rfl)
theorem dX48_tickets_14 : decode cX48_tickets 14 = .ok (.getfield 167, 3) := dk_180 0 167 (dk_at dksX48_tickets_0 14 rfl rfl)
theorem dX48_tickets_17 : decode cX48_tickets 17 = .ok (.ifCond .ge 36, 3) := dk_156 0 36 (dk_at dksX48_tickets_0 17 rfl rfl)
theorem dX48_tickets_20 : decode cX48_tickets 20 = .ok (.aload_n 0, 1) := dk_42 (dk_at dksX48_tickets_0 20 rfl rfl)
theorem dX48_tickets_21 : decode cX48_tickets 21 = .ok (.getfield 10, 3) := dk_180 0 10 (dk_at dksX48_tickets_0 21 rfl rfl)
theorem dX48_tickets_24 : decode cX48_tickets 24 = .ok (.aload_n 0, 1) := dk_42 (dk_at dksX48_tickets_1 0 rfl rfl)
theorem dX48_tickets_25 : decode cX48_tickets 25 = .ok (.getfield 99, 3) := dk_180 0 99 (dk_at dksX48_tickets_1 1 rfl rfl)
theorem dX48_tickets_28 : decode cX48_tickets 28 = .ok (.iconst 0, 1) := dk_3 (dk_at dksX48_tickets_1 4 rfl rfl)
theorem dX48_tickets_29 : decode cX48_tickets 29 = .ok (.laload, 1) := dk_47 (dk_at dksX48_tickets_1 5 rfl rfl)
theorem dX48_tickets_30 : decode cX48_tickets 30 = .ok (.l2i, 1) := dk_136 (dk_at dksX48_tickets_1 6 rfl rfl)
theorem dX48_tickets_31 : decode cX48_tickets 31 = .ok (.aload_n 0, 1) := dk_42 (dk_at dksX48_tickets_1 7 rfl rfl)
theorem dX48_tickets_32 : decode cX48_tickets 32 = .ok (.getfield 99, 3) := dk_180 0 99 (dk_at dksX48_tickets_1 8 rfl rfl)
theorem dX48_tickets_35 : decode cX48_tickets 35 = .ok (.iconst 1, 1) := dk_4 (dk_at dksX48_tickets_1 11 rfl rfl)
theorem dX48_tickets_36 : decode cX48_tickets 36 = .ok (.laload, 1) := dk_47 (dk_at dksX48_tickets_1 12 rfl rfl)
theorem dX48_tickets_37 : decode cX48_tickets 37 = .ok (.l2i, 1) := dk_136 (dk_at dksX48_tickets_1 13 rfl rfl)
theorem dX48_tickets_38 : decode cX48_tickets 38 = .ok (.aload_n 0, 1) := dk_42 (dk_at dksX48_tickets_1 14 rfl rfl)
theorem dX48_tickets_39 : decode cX48_tickets 39 = .ok (.getfield 99, 3) := dk_180 0 99 (dk_at dksX48_tickets_1 15 rfl rfl)
theorem dX48_tickets_42 : decode cX48_tickets 42 = .ok (.iconst 2, 1) := dk_5 (dk_at dksX48_tickets_1 18 rfl rfl)
theorem dX48_tickets_43 : decode cX48_tickets 43 = .ok (.laload, 1) := dk_47 (dk_at dksX48_tickets_1 19 rfl rfl)
theorem dX48_tickets_44 : decode cX48_tickets 44 = .ok (.invokevirtual 453, 3) := dk_182 1 197 (dk_at dksX48_tickets_1 20 rfl rfl)
theorem dX48_tickets_47 : decode cX48_tickets 47 = .ok (.invokestatic 328, 3) := dk_184 1 72 (dk_at dksX48_tickets_2 0 rfl rfl)
theorem dX48_tickets_50 : decode cX48_tickets 50 = .ok (.goto 4, 3) := dk_167 0 4 (dk_at dksX48_tickets_2 3 rfl rfl)
theorem dX48_tickets_53 : decode cX48_tickets 53 = .ok (.lconst 0, 1) := dk_9 (dk_at dksX48_tickets_2 6 rfl rfl)
theorem dX48_tickets_54 : decode cX48_tickets 54 = .ok (.lreturn, 1) := dk_173 (dk_at dksX48_tickets_2 7 rfl rfl)
theorem dX48_tickets_55 : decode cX48_tickets 55 = .ok (.aload_n 0, 1) := dk_42 (dk_at dksX48_tickets_2 8 rfl rfl)
theorem dX48_tickets_56 : decode cX48_tickets 56 = .ok (.ldc_w 455, 3) := dk_19 1 199 (dk_at dksX48_tickets_2 9 rfl rfl)
theorem dX48_tickets_59 : decode cX48_tickets 59 = .ok (.ldc_w 456, 3) := dk_19 1 200 (dk_at dksX48_tickets_2 12 rfl rfl)
theorem dX48_tickets_62 : decode cX48_tickets 62 = .ok (.invokevirtual 263, 3) := dk_182 1 7 (dk_at dksX48_tickets_2 15 rfl rfl)
theorem dX48_tickets_65 : decode cX48_tickets 65 = .ok (.ifCond .eq 62, 3) := dk_153 0 62 (dk_at dksX48_tickets_2 18 rfl rfl)
theorem dX48_tickets_68 : decode cX48_tickets 68 = .ok (.aload_n 0, 1) := dk_42 (dk_at dksX48_tickets_2 21 rfl rfl)
theorem dX48_tickets_69 : decode cX48_tickets 69 = .ok (.getfield 167, 3) := dk_180 0 167 (dk_at dksX48_tickets_3 0 rfl rfl)
theorem dX48_tickets_72 : decode cX48_tickets 72 = .ok (.ifCond .ge 53, 3) := dk_156 0 53 (dk_at dksX48_tickets_3 3 rfl rfl)
theorem dX48_tickets_75 : decode cX48_tickets 75 = .ok (.aload_n 0, 1) := dk_42 (dk_at dksX48_tickets_3 6 rfl rfl)
theorem dX48_tickets_76 : decode cX48_tickets 76 = .ok (.getfield 10, 3) := dk_180 0 10 (dk_at dksX48_tickets_3 7 rfl rfl)
theorem dX48_tickets_79 : decode cX48_tickets 79 = .ok (.aload_n 0, 1) := dk_42 (dk_at dksX48_tickets_3 10 rfl rfl)
theorem dX48_tickets_80 : decode cX48_tickets 80 = .ok (.getfield 99, 3) := dk_180 0 99 (dk_at dksX48_tickets_3 11 rfl rfl)
theorem dX48_tickets_83 : decode cX48_tickets 83 = .ok (.iconst 0, 1) := dk_3 (dk_at dksX48_tickets_3 14 rfl rfl)
theorem dX48_tickets_84 : decode cX48_tickets 84 = .ok (.laload, 1) := dk_47 (dk_at dksX48_tickets_3 15 rfl rfl)
theorem dX48_tickets_85 : decode cX48_tickets 85 = .ok (.l2i, 1) := dk_136 (dk_at dksX48_tickets_3 16 rfl rfl)
theorem dX48_tickets_86 : decode cX48_tickets 86 = .ok (.aload_n 0, 1) := dk_42 (dk_at dksX48_tickets_3 17 rfl rfl)
theorem dX48_tickets_87 : decode cX48_tickets 87 = .ok (.getfield 99, 3) := dk_180 0 99 (dk_at dksX48_tickets_3 18 rfl rfl)
theorem dX48_tickets_90 : decode cX48_tickets 90 = .ok (.iconst 1, 1) := dk_4 (dk_at dksX48_tickets_3 21 rfl rfl)
theorem dX48_tickets_91 : decode cX48_tickets 91 = .ok (.laload, 1) := dk_47 (dk_at dksX48_tickets_3 22 rfl rfl)
theorem dX48_tickets_92 : decode cX48_tickets 92 = .ok (.l2i, 1) := dk_136 (dk_at dksX48_tickets_3 23 rfl rfl)
theorem dX48_tickets_93 : decode cX48_tickets 93 = .ok (.aload_n 0, 1) := dk_42 (dk_at dksX48_tickets_4 0 rfl rfl)
theorem dX48_tickets_94 : decode cX48_tickets 94 = .ok (.getfield 99, 3) := dk_180 0 99 (dk_at dksX48_tickets_4 1 rfl rfl)
theorem dX48_tickets_97 : decode cX48_tickets 97 = .ok (.iconst 2, 1) := dk_5 (dk_at dksX48_tickets_4 4 rfl rfl)
theorem dX48_tickets_98 : decode cX48_tickets 98 = .ok (.laload, 1) := dk_47 (dk_at dksX48_tickets_4 5 rfl rfl)
theorem dX48_tickets_99 : decode cX48_tickets 99 = .ok (.aload_n 0, 1) := dk_42 (dk_at dksX48_tickets_4 6 rfl rfl)
theorem dX48_tickets_100 : decode cX48_tickets 100 = .ok (.getfield 99, 3) := dk_180 0 99 (dk_at dksX48_tickets_4 7 rfl rfl)
theorem dX48_tickets_103 : decode cX48_tickets 103 = .ok (.iconst 3, 1) := dk_6 (dk_at dksX48_tickets_4 10 rfl rfl)
theorem dX48_tickets_104 : decode cX48_tickets 104 = .ok (.laload, 1) := dk_47 (dk_at dksX48_tickets_4 11 rfl rfl)
theorem dX48_tickets_105 : decode cX48_tickets 105 = .ok (.aload_n 0, 1) := dk_42 (dk_at dksX48_tickets_4 12 rfl rfl)
theorem dX48_tickets_106 : decode cX48_tickets 106 = .ok (.getfield 99, 3) := dk_180 0 99 (dk_at dksX48_tickets_4 13 rfl rfl)
theorem dX48_tickets_109 : decode cX48_tickets 109 = .ok (.iconst 4, 1) := dk_7 (dk_at dksX48_tickets_4 16 rfl rfl)
theorem dX48_tickets_110 : decode cX48_tickets 110 = .ok (.laload, 1) := dk_47 (dk_at dksX48_tickets_4 17 rfl rfl)
theorem dX48_tickets_111 : decode cX48_tickets 111 = .ok (.aload_n 0, 1) := dk_42 (dk_at dksX48_tickets_4 18 rfl rfl)
theorem dX48_tickets_112 : decode cX48_tickets 112 = .ok (.getfield 99, 3) := dk_180 0 99 (dk_at dksX48_tickets_4 19 rfl rfl)
theorem dX48_tickets_115 : decode cX48_tickets 115 = .ok (.iconst 5, 1) := dk_8 (dk_at dksX48_tickets_4 22 rfl rfl)
theorem dX48_tickets_116 : decode cX48_tickets 116 = .ok (.laload, 1) := dk_47 (dk_at dksX48_tickets_4 23 rfl rfl)
theorem dX48_tickets_117 : decode cX48_tickets 117 = .ok (.l2i, 1) := dk_136 (dk_at dksX48_tickets_5 0 rfl rfl)
theorem dX48_tickets_118 : decode cX48_tickets 118 = .ok (.invokevirtual 349, 3) := dk_182 1 93 (dk_at dksX48_tickets_5 1 rfl rfl)
theorem dX48_tickets_121 : decode cX48_tickets 121 = .ok (.i2l, 1) := dk_133 (dk_at dksX48_tickets_5 4 rfl rfl)
theorem dX48_tickets_122 : decode cX48_tickets 122 = .ok (.goto 4, 3) := dk_167 0 4 (dk_at dksX48_tickets_5 5 rfl rfl)
theorem dX48_tickets_125 : decode cX48_tickets 125 = .ok (.lconst 0, 1) := dk_9 (dk_at dksX48_tickets_5 8 rfl rfl)
theorem dX48_tickets_126 : decode cX48_tickets 126 = .ok (.lreturn, 1) := dk_173 (dk_at dksX48_tickets_5 9 rfl rfl)
theorem dX48_tickets_127 : decode cX48_tickets 127 = .ok (.aload_n 0, 1) := dk_42 (dk_at dksX48_tickets_5 10 rfl rfl)
theorem dX48_tickets_128 : decode cX48_tickets 128 = .ok (.ldc_w 458, 3) := dk_19 1 202 (dk_at dksX48_tickets_5 11 rfl rfl)
theorem dX48_tickets_131 : decode cX48_tickets 131 = .ok (.ldc_w 460, 3) := dk_19 1 204 (dk_at dksX48_tickets_5 14 rfl rfl)
theorem dX48_tickets_134 : decode cX48_tickets 134 = .ok (.invokevirtual 263, 3) := dk_182 1 7 (dk_at dksX48_tickets_5 17 rfl rfl)
theorem dX48_tickets_137 : decode cX48_tickets 137 = .ok (.ifCond .eq 50, 3) := dk_153 0 50 (dk_at dksX48_tickets_5 20 rfl rfl)
theorem dX48_tickets_140 : decode cX48_tickets 140 = .ok (.aload_n 0, 1) := dk_42 (dk_at dksX48_tickets_5 23 rfl rfl)
theorem dX48_tickets_141 : decode cX48_tickets 141 = .ok (.getfield 167, 3) := dk_180 0 167 (dk_at dksX48_tickets_6 0 rfl rfl)
theorem dX48_tickets_144 : decode cX48_tickets 144 = .ok (.ifCond .ge 41, 3) := dk_156 0 41 (dk_at dksX48_tickets_6 3 rfl rfl)
theorem dX48_tickets_147 : decode cX48_tickets 147 = .ok (.aload_n 0, 1) := dk_42 (dk_at dksX48_tickets_6 6 rfl rfl)
theorem dX48_tickets_148 : decode cX48_tickets 148 = .ok (.getfield 10, 3) := dk_180 0 10 (dk_at dksX48_tickets_6 7 rfl rfl)
theorem dX48_tickets_151 : decode cX48_tickets 151 = .ok (.aload_n 0, 1) := dk_42 (dk_at dksX48_tickets_6 10 rfl rfl)
theorem dX48_tickets_152 : decode cX48_tickets 152 = .ok (.getfield 99, 3) := dk_180 0 99 (dk_at dksX48_tickets_6 11 rfl rfl)
theorem dX48_tickets_155 : decode cX48_tickets 155 = .ok (.iconst 0, 1) := dk_3 (dk_at dksX48_tickets_6 14 rfl rfl)
theorem dX48_tickets_156 : decode cX48_tickets 156 = .ok (.laload, 1) := dk_47 (dk_at dksX48_tickets_6 15 rfl rfl)
theorem dX48_tickets_157 : decode cX48_tickets 157 = .ok (.l2i, 1) := dk_136 (dk_at dksX48_tickets_6 16 rfl rfl)
theorem dX48_tickets_158 : decode cX48_tickets 158 = .ok (.aload_n 0, 1) := dk_42 (dk_at dksX48_tickets_6 17 rfl rfl)
theorem dX48_tickets_159 : decode cX48_tickets 159 = .ok (.getfield 99, 3) := dk_180 0 99 (dk_at dksX48_tickets_6 18 rfl rfl)
theorem dX48_tickets_162 : decode cX48_tickets 162 = .ok (.iconst 1, 1) := dk_4 (dk_at dksX48_tickets_6 21 rfl rfl)
theorem dX48_tickets_163 : decode cX48_tickets 163 = .ok (.laload, 1) := dk_47 (dk_at dksX48_tickets_6 22 rfl rfl)
theorem dX48_tickets_164 : decode cX48_tickets 164 = .ok (.l2i, 1) := dk_136 (dk_at dksX48_tickets_6 23 rfl rfl)
theorem dX48_tickets_165 : decode cX48_tickets 165 = .ok (.aload_n 0, 1) := dk_42 (dk_at dksX48_tickets_7 0 rfl rfl)
theorem dX48_tickets_166 : decode cX48_tickets 166 = .ok (.getfield 99, 3) := dk_180 0 99 (dk_at dksX48_tickets_7 1 rfl rfl)
theorem dX48_tickets_169 : decode cX48_tickets 169 = .ok (.iconst 2, 1) := dk_5 (dk_at dksX48_tickets_7 4 rfl rfl)
theorem dX48_tickets_170 : decode cX48_tickets 170 = .ok (.laload, 1) := dk_47 (dk_at dksX48_tickets_7 5 rfl rfl)
theorem dX48_tickets_171 : decode cX48_tickets 171 = .ok (.aload_n 0, 1) := dk_42 (dk_at dksX48_tickets_7 6 rfl rfl)
theorem dX48_tickets_172 : decode cX48_tickets 172 = .ok (.getfield 99, 3) := dk_180 0 99 (dk_at dksX48_tickets_7 7 rfl rfl)
theorem dX48_tickets_175 : decode cX48_tickets 175 = .ok (.iconst 3, 1) := dk_6 (dk_at dksX48_tickets_7 10 rfl rfl)
theorem dX48_tickets_176 : decode cX48_tickets 176 = .ok (.laload, 1) := dk_47 (dk_at dksX48_tickets_7 11 rfl rfl)
theorem dX48_tickets_177 : decode cX48_tickets 177 = .ok (.l2i, 1) := dk_136 (dk_at dksX48_tickets_7 12 rfl rfl)
theorem dX48_tickets_178 : decode cX48_tickets 178 = .ok (.invokevirtual 462, 3) := dk_182 1 206 (dk_at dksX48_tickets_7 13 rfl rfl)
theorem dX48_tickets_181 : decode cX48_tickets 181 = .ok (.i2l, 1) := dk_133 (dk_at dksX48_tickets_7 16 rfl rfl)
theorem dX48_tickets_182 : decode cX48_tickets 182 = .ok (.goto 4, 3) := dk_167 0 4 (dk_at dksX48_tickets_7 17 rfl rfl)
theorem dX48_tickets_185 : decode cX48_tickets 185 = .ok (.lconst 0, 1) := dk_9 (dk_at dksX48_tickets_7 20 rfl rfl)
theorem dX48_tickets_186 : decode cX48_tickets 186 = .ok (.lreturn, 1) := dk_173 (dk_at dksX48_tickets_7 21 rfl rfl)
theorem dX48_tickets_187 : decode cX48_tickets 187 = .ok (.aload_n 0, 1) := dk_42 (dk_at dksX48_tickets_7 22 rfl rfl)
theorem dX48_tickets_188 : decode cX48_tickets 188 = .ok (.ldc_w 465, 3) := dk_19 1 209 (dk_at dksX48_tickets_8 0 rfl rfl)
theorem dX48_tickets_191 : decode cX48_tickets 191 = .ok (.ldc_w 292, 3) := dk_19 1 36 (dk_at dksX48_tickets_8 3 rfl rfl)
theorem dX48_tickets_194 : decode cX48_tickets 194 = .ok (.invokevirtual 263, 3) := dk_182 1 7 (dk_at dksX48_tickets_8 6 rfl rfl)
theorem dX48_tickets_197 : decode cX48_tickets 197 = .ok (.ifCond .eq 37, 3) := dk_153 0 37 (dk_at dksX48_tickets_8 9 rfl rfl)
theorem dX48_tickets_200 : decode cX48_tickets 200 = .ok (.aload_n 0, 1) := dk_42 (dk_at dksX48_tickets_8 12 rfl rfl)
theorem dX48_tickets_201 : decode cX48_tickets 201 = .ok (.getfield 167, 3) := dk_180 0 167 (dk_at dksX48_tickets_8 13 rfl rfl)
theorem dX48_tickets_204 : decode cX48_tickets 204 = .ok (.ifCond .ge 28, 3) := dk_156 0 28 (dk_at dksX48_tickets_8 16 rfl rfl)
theorem dX48_tickets_207 : decode cX48_tickets 207 = .ok (.aload_n 0, 1) := dk_42 (dk_at dksX48_tickets_8 19 rfl rfl)
theorem dX48_tickets_208 : decode cX48_tickets 208 = .ok (.getfield 10, 3) := dk_180 0 10 (dk_at dksX48_tickets_8 20 rfl rfl)
theorem dX48_tickets_211 : decode cX48_tickets 211 = .ok (.aload_n 0, 1) := dk_42 (dk_at dksX48_tickets_8 23 rfl rfl)
theorem dX48_tickets_212 : decode cX48_tickets 212 = .ok (.getfield 99, 3) := dk_180 0 99 (dk_at dksX48_tickets_9 0 rfl rfl)
theorem dX48_tickets_215 : decode cX48_tickets 215 = .ok (.iconst 0, 1) := dk_3 (dk_at dksX48_tickets_9 3 rfl rfl)
theorem dX48_tickets_216 : decode cX48_tickets 216 = .ok (.laload, 1) := dk_47 (dk_at dksX48_tickets_9 4 rfl rfl)
theorem dX48_tickets_217 : decode cX48_tickets 217 = .ok (.l2i, 1) := dk_136 (dk_at dksX48_tickets_9 5 rfl rfl)
theorem dX48_tickets_218 : decode cX48_tickets 218 = .ok (.aload_n 0, 1) := dk_42 (dk_at dksX48_tickets_9 6 rfl rfl)
theorem dX48_tickets_219 : decode cX48_tickets 219 = .ok (.getfield 99, 3) := dk_180 0 99 (dk_at dksX48_tickets_9 7 rfl rfl)
theorem dX48_tickets_222 : decode cX48_tickets 222 = .ok (.iconst 1, 1) := dk_4 (dk_at dksX48_tickets_9 10 rfl rfl)
theorem dX48_tickets_223 : decode cX48_tickets 223 = .ok (.laload, 1) := dk_47 (dk_at dksX48_tickets_9 11 rfl rfl)
theorem dX48_tickets_224 : decode cX48_tickets 224 = .ok (.l2i, 1) := dk_136 (dk_at dksX48_tickets_9 12 rfl rfl)
theorem dX48_tickets_225 : decode cX48_tickets 225 = .ok (.invokevirtual 467, 3) := dk_182 1 211 (dk_at dksX48_tickets_9 13 rfl rfl)
theorem dX48_tickets_228 : decode cX48_tickets 228 = .ok (.i2l, 1) := dk_133 (dk_at dksX48_tickets_9 16 rfl rfl)
theorem dX48_tickets_229 : decode cX48_tickets 229 = .ok (.goto 4, 3) := dk_167 0 4 (dk_at dksX48_tickets_9 17 rfl rfl)
theorem dX48_tickets_232 : decode cX48_tickets 232 = .ok (.lconst 0, 1) := dk_9 (dk_at dksX48_tickets_9 20 rfl rfl)
theorem dX48_tickets_233 : decode cX48_tickets 233 = .ok (.lreturn, 1) := dk_173 (dk_at dksX48_tickets_9 21 rfl rfl)
theorem dX48_tickets_234 : decode cX48_tickets 234 = .ok (.aload_n 0, 1) := dk_42 (dk_at dksX48_tickets_9 22 rfl rfl)
theorem dX48_tickets_235 : decode cX48_tickets 235 = .ok (.ldc_w 469, 3) := dk_19 1 213 (dk_at dksX48_tickets_10 0 rfl rfl)
theorem dX48_tickets_238 : decode cX48_tickets 238 = .ok (.ldc_w 292, 3) := dk_19 1 36 (dk_at dksX48_tickets_10 3 rfl rfl)
theorem dX48_tickets_241 : decode cX48_tickets 241 = .ok (.invokevirtual 263, 3) := dk_182 1 7 (dk_at dksX48_tickets_10 6 rfl rfl)
theorem dX48_tickets_244 : decode cX48_tickets 244 = .ok (.ifCond .eq 36, 3) := dk_153 0 36 (dk_at dksX48_tickets_10 9 rfl rfl)
theorem dX48_tickets_247 : decode cX48_tickets 247 = .ok (.aload_n 0, 1) := dk_42 (dk_at dksX48_tickets_10 12 rfl rfl)
theorem dX48_tickets_248 : decode cX48_tickets 248 = .ok (.getfield 167, 3) := dk_180 0 167 (dk_at dksX48_tickets_10 13 rfl rfl)
theorem dX48_tickets_251 : decode cX48_tickets 251 = .ok (.ifCond .ge 27, 3) := dk_156 0 27 (dk_at dksX48_tickets_10 16 rfl rfl)
theorem dX48_tickets_254 : decode cX48_tickets 254 = .ok (.aload_n 0, 1) := dk_42 (dk_at dksX48_tickets_10 19 rfl rfl)
theorem dX48_tickets_255 : decode cX48_tickets 255 = .ok (.getfield 10, 3) := dk_180 0 10 (dk_at dksX48_tickets_10 20 rfl rfl)
theorem dX48_tickets_258 : decode cX48_tickets 258 = .ok (.aload_n 0, 1) := dk_42 (dk_at dksX48_tickets_10 23 rfl rfl)
theorem dX48_tickets_259 : decode cX48_tickets 259 = .ok (.getfield 99, 3) := dk_180 0 99 (dk_at dksX48_tickets_11 0 rfl rfl)
theorem dX48_tickets_262 : decode cX48_tickets 262 = .ok (.iconst 0, 1) := dk_3 (dk_at dksX48_tickets_11 3 rfl rfl)
theorem dX48_tickets_263 : decode cX48_tickets 263 = .ok (.laload, 1) := dk_47 (dk_at dksX48_tickets_11 4 rfl rfl)
theorem dX48_tickets_264 : decode cX48_tickets 264 = .ok (.l2i, 1) := dk_136 (dk_at dksX48_tickets_11 5 rfl rfl)
theorem dX48_tickets_265 : decode cX48_tickets 265 = .ok (.aload_n 0, 1) := dk_42 (dk_at dksX48_tickets_11 6 rfl rfl)
theorem dX48_tickets_266 : decode cX48_tickets 266 = .ok (.getfield 99, 3) := dk_180 0 99 (dk_at dksX48_tickets_11 7 rfl rfl)
theorem dX48_tickets_269 : decode cX48_tickets 269 = .ok (.iconst 1, 1) := dk_4 (dk_at dksX48_tickets_11 10 rfl rfl)
theorem dX48_tickets_270 : decode cX48_tickets 270 = .ok (.laload, 1) := dk_47 (dk_at dksX48_tickets_11 11 rfl rfl)
theorem dX48_tickets_271 : decode cX48_tickets 271 = .ok (.l2i, 1) := dk_136 (dk_at dksX48_tickets_11 12 rfl rfl)
theorem dX48_tickets_272 : decode cX48_tickets 272 = .ok (.invokevirtual 471, 3) := dk_182 1 215 (dk_at dksX48_tickets_11 13 rfl rfl)
theorem dX48_tickets_275 : decode cX48_tickets 275 = .ok (.goto 4, 3) := dk_167 0 4 (dk_at dksX48_tickets_11 16 rfl rfl)
theorem dX48_tickets_278 : decode cX48_tickets 278 = .ok (.lconst 0, 1) := dk_9 (dk_at dksX48_tickets_11 19 rfl rfl)
theorem dX48_tickets_279 : decode cX48_tickets 279 = .ok (.lreturn, 1) := dk_173 (dk_at dksX48_tickets_11 20 rfl rfl)
theorem dX48_tickets_280 : decode cX48_tickets 280 = .ok (.aload_n 0, 1) := dk_42 (dk_at dksX48_tickets_11 21 rfl rfl)
theorem dX48_tickets_281 : decode cX48_tickets 281 = .ok (.ldc_w 473, 3) := dk_19 1 217 (dk_at dksX48_tickets_12 0 rfl rfl)
theorem dX48_tickets_284 : decode cX48_tickets 284 = .ok (.ldc_w 278, 3) := dk_19 1 22 (dk_at dksX48_tickets_12 3 rfl rfl)
theorem dX48_tickets_287 : decode cX48_tickets 287 = .ok (.invokevirtual 263, 3) := dk_182 1 7 (dk_at dksX48_tickets_12 6 rfl rfl)
theorem dX48_tickets_290 : decode cX48_tickets 290 = .ok (.ifCond .eq 30, 3) := dk_153 0 30 (dk_at dksX48_tickets_12 9 rfl rfl)
theorem dX48_tickets_293 : decode cX48_tickets 293 = .ok (.aload_n 0, 1) := dk_42 (dk_at dksX48_tickets_12 12 rfl rfl)
theorem dX48_tickets_294 : decode cX48_tickets 294 = .ok (.getfield 167, 3) := dk_180 0 167 (dk_at dksX48_tickets_12 13 rfl rfl)
theorem dX48_tickets_297 : decode cX48_tickets 297 = .ok (.ifCond .ge 21, 3) := dk_156 0 21 (dk_at dksX48_tickets_12 16 rfl rfl)
theorem dX48_tickets_300 : decode cX48_tickets 300 = .ok (.aload_n 0, 1) := dk_42 (dk_at dksX48_tickets_12 19 rfl rfl)
theorem dX48_tickets_301 : decode cX48_tickets 301 = .ok (.getfield 10, 3) := dk_180 0 10 (dk_at dksX48_tickets_12 20 rfl rfl)
theorem dX48_tickets_304 : decode cX48_tickets 304 = .ok (.aload_n 0, 1) := dk_42 (dk_at dksX48_tickets_12 23 rfl rfl)
theorem dX48_tickets_305 : decode cX48_tickets 305 = .ok (.getfield 99, 3) := dk_180 0 99 (dk_at dksX48_tickets_13 0 rfl rfl)
theorem dX48_tickets_308 : decode cX48_tickets 308 = .ok (.iconst 0, 1) := dk_3 (dk_at dksX48_tickets_13 3 rfl rfl)
theorem dX48_tickets_309 : decode cX48_tickets 309 = .ok (.laload, 1) := dk_47 (dk_at dksX48_tickets_13 4 rfl rfl)
theorem dX48_tickets_310 : decode cX48_tickets 310 = .ok (.l2i, 1) := dk_136 (dk_at dksX48_tickets_13 5 rfl rfl)
theorem dX48_tickets_311 : decode cX48_tickets 311 = .ok (.invokevirtual 475, 3) := dk_182 1 219 (dk_at dksX48_tickets_13 6 rfl rfl)
theorem dX48_tickets_314 : decode cX48_tickets 314 = .ok (.i2l, 1) := dk_133 (dk_at dksX48_tickets_13 9 rfl rfl)
theorem dX48_tickets_315 : decode cX48_tickets 315 = .ok (.goto 4, 3) := dk_167 0 4 (dk_at dksX48_tickets_13 10 rfl rfl)
theorem dX48_tickets_318 : decode cX48_tickets 318 = .ok (.lconst 0, 1) := dk_9 (dk_at dksX48_tickets_13 13 rfl rfl)
theorem dX48_tickets_319 : decode cX48_tickets 319 = .ok (.lreturn, 1) := dk_173 (dk_at dksX48_tickets_13 14 rfl rfl)
theorem dX48_tickets_320 : decode cX48_tickets 320 = .ok (.aload_n 0, 1) := dk_42 (dk_at dksX48_tickets_13 15 rfl rfl)
theorem dX48_tickets_321 : decode cX48_tickets 321 = .ok (.ldc_w 477, 3) := dk_19 1 221 (dk_at dksX48_tickets_13 16 rfl rfl)
theorem dX48_tickets_324 : decode cX48_tickets 324 = .ok (.ldc_w 278, 3) := dk_19 1 22 (dk_at dksX48_tickets_13 19 rfl rfl)
theorem dX48_tickets_327 : decode cX48_tickets 327 = .ok (.invokevirtual 263, 3) := dk_182 1 7 (dk_at dksX48_tickets_14 0 rfl rfl)
theorem dX48_tickets_330 : decode cX48_tickets 330 = .ok (.ifCond .eq 30, 3) := dk_153 0 30 (dk_at dksX48_tickets_14 3 rfl rfl)
theorem dX48_tickets_333 : decode cX48_tickets 333 = .ok (.aload_n 0, 1) := dk_42 (dk_at dksX48_tickets_14 6 rfl rfl)
theorem dX48_tickets_334 : decode cX48_tickets 334 = .ok (.getfield 167, 3) := dk_180 0 167 (dk_at dksX48_tickets_14 7 rfl rfl)
theorem dX48_tickets_337 : decode cX48_tickets 337 = .ok (.ifCond .ge 21, 3) := dk_156 0 21 (dk_at dksX48_tickets_14 10 rfl rfl)
theorem dX48_tickets_340 : decode cX48_tickets 340 = .ok (.aload_n 0, 1) := dk_42 (dk_at dksX48_tickets_14 13 rfl rfl)
theorem dX48_tickets_341 : decode cX48_tickets 341 = .ok (.getfield 10, 3) := dk_180 0 10 (dk_at dksX48_tickets_14 14 rfl rfl)
theorem dX48_tickets_344 : decode cX48_tickets 344 = .ok (.aload_n 0, 1) := dk_42 (dk_at dksX48_tickets_14 17 rfl rfl)
theorem dX48_tickets_345 : decode cX48_tickets 345 = .ok (.getfield 99, 3) := dk_180 0 99 (dk_at dksX48_tickets_14 18 rfl rfl)
theorem dX48_tickets_348 : decode cX48_tickets 348 = .ok (.iconst 0, 1) := dk_3 (dk_at dksX48_tickets_14 21 rfl rfl)
theorem dX48_tickets_349 : decode cX48_tickets 349 = .ok (.laload, 1) := dk_47 (dk_at dksX48_tickets_14 22 rfl rfl)
theorem dX48_tickets_350 : decode cX48_tickets 350 = .ok (.l2i, 1) := dk_136 (dk_at dksX48_tickets_14 23 rfl rfl)
theorem dX48_tickets_351 : decode cX48_tickets 351 = .ok (.invokevirtual 479, 3) := dk_182 1 223 (dk_at dksX48_tickets_15 0 rfl rfl)
theorem dX48_tickets_354 : decode cX48_tickets 354 = .ok (.i2l, 1) := dk_133 (dk_at dksX48_tickets_15 3 rfl rfl)
theorem dX48_tickets_355 : decode cX48_tickets 355 = .ok (.goto 4, 3) := dk_167 0 4 (dk_at dksX48_tickets_15 4 rfl rfl)
theorem dX48_tickets_358 : decode cX48_tickets 358 = .ok (.lconst 0, 1) := dk_9 (dk_at dksX48_tickets_15 7 rfl rfl)
theorem dX48_tickets_359 : decode cX48_tickets 359 = .ok (.lreturn, 1) := dk_173 (dk_at dksX48_tickets_15 8 rfl rfl)
theorem dX48_tickets_360 : decode cX48_tickets 360 = .ok (.aload_n 0, 1) := dk_42 (dk_at dksX48_tickets_15 9 rfl rfl)
theorem dX48_tickets_361 : decode cX48_tickets 361 = .ok (.ldc_w 481, 3) := dk_19 1 225 (dk_at dksX48_tickets_15 10 rfl rfl)
theorem dX48_tickets_364 : decode cX48_tickets 364 = .ok (.ldc_w 272, 3) := dk_19 1 16 (dk_at dksX48_tickets_15 13 rfl rfl)
theorem dX48_tickets_367 : decode cX48_tickets 367 = .ok (.invokevirtual 263, 3) := dk_182 1 7 (dk_at dksX48_tickets_15 16 rfl rfl)
theorem dX48_tickets_370 : decode cX48_tickets 370 = .ok (.ifCond .eq 23, 3) := dk_153 0 23 (dk_at dksX48_tickets_15 19 rfl rfl)
theorem dX48_tickets_373 : decode cX48_tickets 373 = .ok (.aload_n 0, 1) := dk_42 (dk_at dksX48_tickets_15 22 rfl rfl)
theorem dX48_tickets_374 : decode cX48_tickets 374 = .ok (.getfield 167, 3) := dk_180 0 167 (dk_at dksX48_tickets_16 0 rfl rfl)
theorem dX48_tickets_377 : decode cX48_tickets 377 = .ok (.ifCond .ge 14, 3) := dk_156 0 14 (dk_at dksX48_tickets_16 3 rfl rfl)
theorem dX48_tickets_380 : decode cX48_tickets 380 = .ok (.aload_n 0, 1) := dk_42 (dk_at dksX48_tickets_16 6 rfl rfl)
theorem dX48_tickets_381 : decode cX48_tickets 381 = .ok (.getfield 10, 3) := dk_180 0 10 (dk_at dksX48_tickets_16 7 rfl rfl)
theorem dX48_tickets_384 : decode cX48_tickets 384 = .ok (.invokevirtual 483, 3) := dk_182 1 227 (dk_at dksX48_tickets_16 10 rfl rfl)
theorem dX48_tickets_387 : decode cX48_tickets 387 = .ok (.i2l, 1) := dk_133 (dk_at dksX48_tickets_16 13 rfl rfl)
theorem dX48_tickets_388 : decode cX48_tickets 388 = .ok (.goto 4, 3) := dk_167 0 4 (dk_at dksX48_tickets_16 14 rfl rfl)
theorem dX48_tickets_391 : decode cX48_tickets 391 = .ok (.lconst 0, 1) := dk_9 (dk_at dksX48_tickets_16 17 rfl rfl)
theorem dX48_tickets_392 : decode cX48_tickets 392 = .ok (.lreturn, 1) := dk_173 (dk_at dksX48_tickets_16 18 rfl rfl)
theorem dX48_tickets_393 : decode cX48_tickets 393 = .ok (.aload_n 0, 1) := dk_42 (dk_at dksX48_tickets_16 19 rfl rfl)
theorem dX48_tickets_394 : decode cX48_tickets 394 = .ok (.ldc_w 485, 3) := dk_19 1 229 (dk_at dksX48_tickets_16 20 rfl rfl)
theorem dX48_tickets_397 : decode cX48_tickets 397 = .ok (.ldc_w 272, 3) := dk_19 1 16 (dk_at dksX48_tickets_17 0 rfl rfl)
theorem dX48_tickets_400 : decode cX48_tickets 400 = .ok (.invokevirtual 263, 3) := dk_182 1 7 (dk_at dksX48_tickets_17 3 rfl rfl)
theorem dX48_tickets_403 : decode cX48_tickets 403 = .ok (.ifCond .eq 23, 3) := dk_153 0 23 (dk_at dksX48_tickets_17 6 rfl rfl)
theorem dX48_tickets_406 : decode cX48_tickets 406 = .ok (.aload_n 0, 1) := dk_42 (dk_at dksX48_tickets_17 9 rfl rfl)
theorem dX48_tickets_407 : decode cX48_tickets 407 = .ok (.getfield 167, 3) := dk_180 0 167 (dk_at dksX48_tickets_17 10 rfl rfl)
theorem dX48_tickets_410 : decode cX48_tickets 410 = .ok (.ifCond .ge 14, 3) := dk_156 0 14 (dk_at dksX48_tickets_17 13 rfl rfl)
theorem dX48_tickets_413 : decode cX48_tickets 413 = .ok (.aload_n 0, 1) := dk_42 (dk_at dksX48_tickets_17 16 rfl rfl)
theorem dX48_tickets_414 : decode cX48_tickets 414 = .ok (.getfield 10, 3) := dk_180 0 10 (dk_at dksX48_tickets_17 17 rfl rfl)
theorem dX48_tickets_417 : decode cX48_tickets 417 = .ok (.invokevirtual 487, 3) := dk_182 1 231 (dk_at dksX48_tickets_17 20 rfl rfl)
theorem dX48_tickets_420 : decode cX48_tickets 420 = .ok (.i2l, 1) := dk_133 (dk_at dksX48_tickets_17 23 rfl rfl)
theorem dX48_tickets_421 : decode cX48_tickets 421 = .ok (.goto 4, 3) := dk_167 0 4 (dk_at dksX48_tickets_18 0 rfl rfl)
theorem dX48_tickets_424 : decode cX48_tickets 424 = .ok (.lconst 0, 1) := dk_9 (dk_at dksX48_tickets_18 3 rfl rfl)
theorem dX48_tickets_425 : decode cX48_tickets 425 = .ok (.lreturn, 1) := dk_173 (dk_at dksX48_tickets_18 4 rfl rfl)
theorem dX48_tickets_426 : decode cX48_tickets 426 = .ok (.aload_n 0, 1) := dk_42 (dk_at dksX48_tickets_18 5 rfl rfl)
theorem dX48_tickets_427 : decode cX48_tickets 427 = .ok (.ldc_w 489, 3) := dk_19 1 233 (dk_at dksX48_tickets_18 6 rfl rfl)
theorem dX48_tickets_430 : decode cX48_tickets 430 = .ok (.ldc_w 451, 3) := dk_19 1 195 (dk_at dksX48_tickets_18 9 rfl rfl)
theorem dX48_tickets_433 : decode cX48_tickets 433 = .ok (.invokevirtual 263, 3) := dk_182 1 7 (dk_at dksX48_tickets_18 12 rfl rfl)
theorem dX48_tickets_436 : decode cX48_tickets 436 = .ok (.ifCond .eq 45, 3) := dk_153 0 45 (dk_at dksX48_tickets_18 15 rfl rfl)
theorem dX48_tickets_439 : decode cX48_tickets 439 = .ok (.aload_n 0, 1) := dk_42 (dk_at dksX48_tickets_18 18 rfl rfl)
theorem dX48_tickets_440 : decode cX48_tickets 440 = .ok (.getfield 167, 3) := dk_180 0 167 (dk_at dksX48_tickets_18 19 rfl rfl)
theorem dX48_tickets_443 : decode cX48_tickets 443 = .ok (.ifCond .ge 36, 3) := dk_156 0 36 (dk_at dksX48_tickets_19 0 rfl rfl)
theorem dX48_tickets_446 : decode cX48_tickets 446 = .ok (.aload_n 0, 1) := dk_42 (dk_at dksX48_tickets_19 3 rfl rfl)
theorem dX48_tickets_447 : decode cX48_tickets 447 = .ok (.getfield 10, 3) := dk_180 0 10 (dk_at dksX48_tickets_19 4 rfl rfl)
theorem dX48_tickets_450 : decode cX48_tickets 450 = .ok (.aload_n 0, 1) := dk_42 (dk_at dksX48_tickets_19 7 rfl rfl)
theorem dX48_tickets_451 : decode cX48_tickets 451 = .ok (.getfield 99, 3) := dk_180 0 99 (dk_at dksX48_tickets_19 8 rfl rfl)
theorem dX48_tickets_454 : decode cX48_tickets 454 = .ok (.iconst 0, 1) := dk_3 (dk_at dksX48_tickets_19 11 rfl rfl)
theorem dX48_tickets_455 : decode cX48_tickets 455 = .ok (.laload, 1) := dk_47 (dk_at dksX48_tickets_19 12 rfl rfl)
theorem dX48_tickets_456 : decode cX48_tickets 456 = .ok (.l2i, 1) := dk_136 (dk_at dksX48_tickets_19 13 rfl rfl)
theorem dX48_tickets_457 : decode cX48_tickets 457 = .ok (.aload_n 0, 1) := dk_42 (dk_at dksX48_tickets_19 14 rfl rfl)
theorem dX48_tickets_458 : decode cX48_tickets 458 = .ok (.getfield 99, 3) := dk_180 0 99 (dk_at dksX48_tickets_19 15 rfl rfl)
theorem dX48_tickets_461 : decode cX48_tickets 461 = .ok (.iconst 1, 1) := dk_4 (dk_at dksX48_tickets_19 18 rfl rfl)
theorem dX48_tickets_462 : decode cX48_tickets 462 = .ok (.laload, 1) := dk_47 (dk_at dksX48_tickets_19 19 rfl rfl)
theorem dX48_tickets_463 : decode cX48_tickets 463 = .ok (.l2i, 1) := dk_136 (dk_at dksX48_tickets_19 20 rfl rfl)
theorem dX48_tickets_464 : decode cX48_tickets 464 = .ok (.aload_n 0, 1) := dk_42 (dk_at dksX48_tickets_19 21 rfl rfl)
theorem dX48_tickets_465 : decode cX48_tickets 465 = .ok (.getfield 99, 3) := dk_180 0 99 (dk_at dksX48_tickets_20 0 rfl rfl)
theorem dX48_tickets_468 : decode cX48_tickets 468 = .ok (.iconst 2, 1) := dk_5 (dk_at dksX48_tickets_20 3 rfl rfl)
theorem dX48_tickets_469 : decode cX48_tickets 469 = .ok (.laload, 1) := dk_47 (dk_at dksX48_tickets_20 4 rfl rfl)
theorem dX48_tickets_470 : decode cX48_tickets 470 = .ok (.invokevirtual 490, 3) := dk_182 1 234 (dk_at dksX48_tickets_20 5 rfl rfl)
theorem dX48_tickets_473 : decode cX48_tickets 473 = .ok (.invokestatic 328, 3) := dk_184 1 72 (dk_at dksX48_tickets_20 8 rfl rfl)
theorem dX48_tickets_476 : decode cX48_tickets 476 = .ok (.goto 4, 3) := dk_167 0 4 (dk_at dksX48_tickets_20 11 rfl rfl)
theorem dX48_tickets_479 : decode cX48_tickets 479 = .ok (.lconst 0, 1) := dk_9 (dk_at dksX48_tickets_20 14 rfl rfl)
theorem dX48_tickets_480 : decode cX48_tickets 480 = .ok (.lreturn, 1) := dk_173 (dk_at dksX48_tickets_20 15 rfl rfl)
theorem dX48_tickets_481 : decode cX48_tickets 481 = .ok (.aload_n 0, 1) := dk_42 (dk_at dksX48_tickets_20 16 rfl rfl)
theorem dX48_tickets_482 : decode cX48_tickets 482 = .ok (.ldc_w 492, 3) := dk_19 1 236 (dk_at dksX48_tickets_20 17 rfl rfl)
theorem dX48_tickets_485 : decode cX48_tickets 485 = .ok (.ldc_w 292, 3) := dk_19 1 36 (dk_at dksX48_tickets_20 20 rfl rfl)
theorem dX48_tickets_488 : decode cX48_tickets 488 = .ok (.invokevirtual 263, 3) := dk_182 1 7 (dk_at dksX48_tickets_21 0 rfl rfl)
theorem dX48_tickets_491 : decode cX48_tickets 491 = .ok (.ifCond .eq 36, 3) := dk_153 0 36 (dk_at dksX48_tickets_21 3 rfl rfl)
theorem dX48_tickets_494 : decode cX48_tickets 494 = .ok (.aload_n 0, 1) := dk_42 (dk_at dksX48_tickets_21 6 rfl rfl)
theorem dX48_tickets_495 : decode cX48_tickets 495 = .ok (.getfield 167, 3) := dk_180 0 167 (dk_at dksX48_tickets_21 7 rfl rfl)
theorem dX48_tickets_498 : decode cX48_tickets 498 = .ok (.ifCond .ge 27, 3) := dk_156 0 27 (dk_at dksX48_tickets_21 10 rfl rfl)
theorem dX48_tickets_501 : decode cX48_tickets 501 = .ok (.aload_n 0, 1) := dk_42 (dk_at dksX48_tickets_21 13 rfl rfl)
theorem dX48_tickets_502 : decode cX48_tickets 502 = .ok (.getfield 10, 3) := dk_180 0 10 (dk_at dksX48_tickets_21 14 rfl rfl)
theorem dX48_tickets_505 : decode cX48_tickets 505 = .ok (.aload_n 0, 1) := dk_42 (dk_at dksX48_tickets_21 17 rfl rfl)
theorem dX48_tickets_506 : decode cX48_tickets 506 = .ok (.getfield 99, 3) := dk_180 0 99 (dk_at dksX48_tickets_21 18 rfl rfl)
theorem dX48_tickets_509 : decode cX48_tickets 509 = .ok (.iconst 0, 1) := dk_3 (dk_at dksX48_tickets_21 21 rfl rfl)
theorem dX48_tickets_510 : decode cX48_tickets 510 = .ok (.laload, 1) := dk_47 (dk_at dksX48_tickets_21 22 rfl rfl)
theorem dX48_tickets_511 : decode cX48_tickets 511 = .ok (.l2i, 1) := dk_136 (dk_at dksX48_tickets_21 23 rfl rfl)
theorem dX48_tickets_512 : decode cX48_tickets 512 = .ok (.aload_n 0, 1) := dk_42 (dk_at dksX48_tickets_22 0 rfl rfl)
theorem dX48_tickets_513 : decode cX48_tickets 513 = .ok (.getfield 99, 3) := dk_180 0 99 (dk_at dksX48_tickets_22 1 rfl rfl)
theorem dX48_tickets_516 : decode cX48_tickets 516 = .ok (.iconst 1, 1) := dk_4 (dk_at dksX48_tickets_22 4 rfl rfl)
theorem dX48_tickets_517 : decode cX48_tickets 517 = .ok (.laload, 1) := dk_47 (dk_at dksX48_tickets_22 5 rfl rfl)
theorem dX48_tickets_518 : decode cX48_tickets 518 = .ok (.l2i, 1) := dk_136 (dk_at dksX48_tickets_22 6 rfl rfl)
theorem dX48_tickets_519 : decode cX48_tickets 519 = .ok (.invokevirtual 447, 3) := dk_182 1 191 (dk_at dksX48_tickets_22 7 rfl rfl)
theorem dX48_tickets_522 : decode cX48_tickets 522 = .ok (.goto 4, 3) := dk_167 0 4 (dk_at dksX48_tickets_22 10 rfl rfl)
theorem dX48_tickets_525 : decode cX48_tickets 525 = .ok (.lconst 0, 1) := dk_9 (dk_at dksX48_tickets_22 13 rfl rfl)
theorem dX48_tickets_526 : decode cX48_tickets 526 = .ok (.lreturn, 1) := dk_173 (dk_at dksX48_tickets_22 14 rfl rfl)
theorem dX48_tickets_527 : decode cX48_tickets 527 = .ok (.aload_n 0, 1) := dk_42 (dk_at dksX48_tickets_22 15 rfl rfl)
theorem dX48_tickets_528 : decode cX48_tickets 528 = .ok (.ldc_w 493, 3) := dk_19 1 237 (dk_at dksX48_tickets_22 16 rfl rfl)
theorem dX48_tickets_531 : decode cX48_tickets 531 = .ok (.ldc_w 292, 3) := dk_19 1 36 (dk_at dksX48_tickets_22 19 rfl rfl)
theorem dX48_tickets_534 : decode cX48_tickets 534 = .ok (.invokevirtual 263, 3) := dk_182 1 7 (dk_at dksX48_tickets_23 0 rfl rfl)
theorem dX48_tickets_537 : decode cX48_tickets 537 = .ok (.ifCond .eq 37, 3) := dk_153 0 37 (dk_at dksX48_tickets_23 3 rfl rfl)
theorem dX48_tickets_540 : decode cX48_tickets 540 = .ok (.aload_n 0, 1) := dk_42 (dk_at dksX48_tickets_23 6 rfl rfl)
theorem dX48_tickets_541 : decode cX48_tickets 541 = .ok (.getfield 167, 3) := dk_180 0 167 (dk_at dksX48_tickets_23 7 rfl rfl)
theorem dX48_tickets_544 : decode cX48_tickets 544 = .ok (.ifCond .ge 28, 3) := dk_156 0 28 (dk_at dksX48_tickets_23 10 rfl rfl)
theorem dX48_tickets_547 : decode cX48_tickets 547 = .ok (.aload_n 0, 1) := dk_42 (dk_at dksX48_tickets_23 13 rfl rfl)
theorem dX48_tickets_548 : decode cX48_tickets 548 = .ok (.getfield 10, 3) := dk_180 0 10 (dk_at dksX48_tickets_23 14 rfl rfl)
theorem dX48_tickets_551 : decode cX48_tickets 551 = .ok (.aload_n 0, 1) := dk_42 (dk_at dksX48_tickets_23 17 rfl rfl)
theorem dX48_tickets_552 : decode cX48_tickets 552 = .ok (.getfield 99, 3) := dk_180 0 99 (dk_at dksX48_tickets_23 18 rfl rfl)
theorem dX48_tickets_555 : decode cX48_tickets 555 = .ok (.iconst 0, 1) := dk_3 (dk_at dksX48_tickets_23 21 rfl rfl)
theorem dX48_tickets_556 : decode cX48_tickets 556 = .ok (.laload, 1) := dk_47 (dk_at dksX48_tickets_23 22 rfl rfl)
theorem dX48_tickets_557 : decode cX48_tickets 557 = .ok (.l2i, 1) := dk_136 (dk_at dksX48_tickets_23 23 rfl rfl)
theorem dX48_tickets_558 : decode cX48_tickets 558 = .ok (.aload_n 0, 1) := dk_42 (dk_at dksX48_tickets_24 0 rfl rfl)
theorem dX48_tickets_559 : decode cX48_tickets 559 = .ok (.getfield 99, 3) := dk_180 0 99 (dk_at dksX48_tickets_24 1 rfl rfl)
theorem dX48_tickets_562 : decode cX48_tickets 562 = .ok (.iconst 1, 1) := dk_4 (dk_at dksX48_tickets_24 4 rfl rfl)
theorem dX48_tickets_563 : decode cX48_tickets 563 = .ok (.laload, 1) := dk_47 (dk_at dksX48_tickets_24 5 rfl rfl)
theorem dX48_tickets_564 : decode cX48_tickets 564 = .ok (.l2i, 1) := dk_136 (dk_at dksX48_tickets_24 6 rfl rfl)
theorem dX48_tickets_565 : decode cX48_tickets 565 = .ok (.invokevirtual 494, 3) := dk_182 1 238 (dk_at dksX48_tickets_24 7 rfl rfl)
theorem dX48_tickets_568 : decode cX48_tickets 568 = .ok (.i2l, 1) := dk_133 (dk_at dksX48_tickets_24 10 rfl rfl)
theorem dX48_tickets_569 : decode cX48_tickets 569 = .ok (.goto 4, 3) := dk_167 0 4 (dk_at dksX48_tickets_24 11 rfl rfl)
theorem dX48_tickets_572 : decode cX48_tickets 572 = .ok (.lconst 0, 1) := dk_9 (dk_at dksX48_tickets_24 14 rfl rfl)
theorem dX48_tickets_573 : decode cX48_tickets 573 = .ok (.lreturn, 1) := dk_173 (dk_at dksX48_tickets_24 15 rfl rfl)
theorem dX48_tickets_574 : decode cX48_tickets 574 = .ok (.aload_n 0, 1) := dk_42 (dk_at dksX48_tickets_24 16 rfl rfl)
theorem dX48_tickets_575 : decode cX48_tickets 575 = .ok (.ldc_w 496, 3) := dk_19 1 240 (dk_at dksX48_tickets_24 17 rfl rfl)
theorem dX48_tickets_578 : decode cX48_tickets 578 = .ok (.ldc_w 498, 3) := dk_19 1 242 (dk_at dksX48_tickets_24 20 rfl rfl)
theorem dX48_tickets_581 : decode cX48_tickets 581 = .ok (.invokevirtual 263, 3) := dk_182 1 7 (dk_at dksX48_tickets_25 0 rfl rfl)
theorem dX48_tickets_584 : decode cX48_tickets 584 = .ok (.ifCond .eq 46, 3) := dk_153 0 46 (dk_at dksX48_tickets_25 3 rfl rfl)
theorem dX48_tickets_587 : decode cX48_tickets 587 = .ok (.aload_n 0, 1) := dk_42 (dk_at dksX48_tickets_25 6 rfl rfl)
theorem dX48_tickets_588 : decode cX48_tickets 588 = .ok (.getfield 167, 3) := dk_180 0 167 (dk_at dksX48_tickets_25 7 rfl rfl)
theorem dX48_tickets_591 : decode cX48_tickets 591 = .ok (.ifCond .ge 37, 3) := dk_156 0 37 (dk_at dksX48_tickets_25 10 rfl rfl)
theorem dX48_tickets_594 : decode cX48_tickets 594 = .ok (.aload_n 0, 1) := dk_42 (dk_at dksX48_tickets_25 13 rfl rfl)
theorem dX48_tickets_595 : decode cX48_tickets 595 = .ok (.getfield 10, 3) := dk_180 0 10 (dk_at dksX48_tickets_25 14 rfl rfl)
theorem dX48_tickets_598 : decode cX48_tickets 598 = .ok (.aload_n 0, 1) := dk_42 (dk_at dksX48_tickets_25 17 rfl rfl)
theorem dX48_tickets_599 : decode cX48_tickets 599 = .ok (.getfield 99, 3) := dk_180 0 99 (dk_at dksX48_tickets_25 18 rfl rfl)
theorem dX48_tickets_602 : decode cX48_tickets 602 = .ok (.iconst 0, 1) := dk_3 (dk_at dksX48_tickets_25 21 rfl rfl)
theorem dX48_tickets_603 : decode cX48_tickets 603 = .ok (.laload, 1) := dk_47 (dk_at dksX48_tickets_25 22 rfl rfl)
theorem dX48_tickets_604 : decode cX48_tickets 604 = .ok (.l2i, 1) := dk_136 (dk_at dksX48_tickets_25 23 rfl rfl)
theorem dX48_tickets_605 : decode cX48_tickets 605 = .ok (.aload_n 0, 1) := dk_42 (dk_at dksX48_tickets_26 0 rfl rfl)
theorem dX48_tickets_606 : decode cX48_tickets 606 = .ok (.getfield 99, 3) := dk_180 0 99 (dk_at dksX48_tickets_26 1 rfl rfl)
theorem dX48_tickets_609 : decode cX48_tickets 609 = .ok (.iconst 1, 1) := dk_4 (dk_at dksX48_tickets_26 4 rfl rfl)
theorem dX48_tickets_610 : decode cX48_tickets 610 = .ok (.laload, 1) := dk_47 (dk_at dksX48_tickets_26 5 rfl rfl)
theorem dX48_tickets_611 : decode cX48_tickets 611 = .ok (.l2i, 1) := dk_136 (dk_at dksX48_tickets_26 6 rfl rfl)
theorem dX48_tickets_612 : decode cX48_tickets 612 = .ok (.aload_n 0, 1) := dk_42 (dk_at dksX48_tickets_26 7 rfl rfl)
theorem dX48_tickets_613 : decode cX48_tickets 613 = .ok (.getfield 99, 3) := dk_180 0 99 (dk_at dksX48_tickets_26 8 rfl rfl)
theorem dX48_tickets_616 : decode cX48_tickets 616 = .ok (.iconst 2, 1) := dk_5 (dk_at dksX48_tickets_26 11 rfl rfl)
theorem dX48_tickets_617 : decode cX48_tickets 617 = .ok (.laload, 1) := dk_47 (dk_at dksX48_tickets_26 12 rfl rfl)
theorem dX48_tickets_618 : decode cX48_tickets 618 = .ok (.l2i, 1) := dk_136 (dk_at dksX48_tickets_26 13 rfl rfl)
theorem dX48_tickets_619 : decode cX48_tickets 619 = .ok (.invokevirtual 500, 3) := dk_182 1 244 (dk_at dksX48_tickets_26 14 rfl rfl)
theorem dX48_tickets_622 : decode cX48_tickets 622 = .ok (.invokestatic 328, 3) := dk_184 1 72 (dk_at dksX48_tickets_26 17 rfl rfl)
theorem dX48_tickets_625 : decode cX48_tickets 625 = .ok (.goto 4, 3) := dk_167 0 4 (dk_at dksX48_tickets_26 20 rfl rfl)
theorem dX48_tickets_628 : decode cX48_tickets 628 = .ok (.lconst 0, 1) := dk_9 (dk_at dksX48_tickets_26 23 rfl rfl)
theorem dX48_tickets_629 : decode cX48_tickets 629 = .ok (.lreturn, 1) := dk_173 (dk_at dksX48_tickets_27 0 rfl rfl)
theorem dX48_tickets_630 : decode cX48_tickets 630 = .ok (.aload_n 0, 1) := dk_42 (dk_at dksX48_tickets_27 1 rfl rfl)
theorem dX48_tickets_631 : decode cX48_tickets 631 = .ok (.ldc_w 503, 3) := dk_19 1 247 (dk_at dksX48_tickets_27 2 rfl rfl)
theorem dX48_tickets_634 : decode cX48_tickets 634 = .ok (.ldc_w 292, 3) := dk_19 1 36 (dk_at dksX48_tickets_27 5 rfl rfl)
theorem dX48_tickets_637 : decode cX48_tickets 637 = .ok (.invokevirtual 263, 3) := dk_182 1 7 (dk_at dksX48_tickets_27 8 rfl rfl)
theorem dX48_tickets_640 : decode cX48_tickets 640 = .ok (.ifCond .eq 37, 3) := dk_153 0 37 (dk_at dksX48_tickets_27 11 rfl rfl)
theorem dX48_tickets_643 : decode cX48_tickets 643 = .ok (.aload_n 0, 1) := dk_42 (dk_at dksX48_tickets_27 14 rfl rfl)
theorem dX48_tickets_644 : decode cX48_tickets 644 = .ok (.getfield 167, 3) := dk_180 0 167 (dk_at dksX48_tickets_27 15 rfl rfl)
theorem dX48_tickets_647 : decode cX48_tickets 647 = .ok (.ifCond .ge 28, 3) := dk_156 0 28 (dk_at dksX48_tickets_27 18 rfl rfl)
theorem dX48_tickets_650 : decode cX48_tickets 650 = .ok (.aload_n 0, 1) := dk_42 (dk_at dksX48_tickets_27 21 rfl rfl)
theorem dX48_tickets_651 : decode cX48_tickets 651 = .ok (.getfield 10, 3) := dk_180 0 10 (dk_at dksX48_tickets_28 0 rfl rfl)
theorem dX48_tickets_654 : decode cX48_tickets 654 = .ok (.aload_n 0, 1) := dk_42 (dk_at dksX48_tickets_28 3 rfl rfl)
theorem dX48_tickets_655 : decode cX48_tickets 655 = .ok (.getfield 99, 3) := dk_180 0 99 (dk_at dksX48_tickets_28 4 rfl rfl)
theorem dX48_tickets_658 : decode cX48_tickets 658 = .ok (.iconst 0, 1) := dk_3 (dk_at dksX48_tickets_28 7 rfl rfl)
theorem dX48_tickets_659 : decode cX48_tickets 659 = .ok (.laload, 1) := dk_47 (dk_at dksX48_tickets_28 8 rfl rfl)
theorem dX48_tickets_660 : decode cX48_tickets 660 = .ok (.l2i, 1) := dk_136 (dk_at dksX48_tickets_28 9 rfl rfl)
theorem dX48_tickets_661 : decode cX48_tickets 661 = .ok (.aload_n 0, 1) := dk_42 (dk_at dksX48_tickets_28 10 rfl rfl)
theorem dX48_tickets_662 : decode cX48_tickets 662 = .ok (.getfield 99, 3) := dk_180 0 99 (dk_at dksX48_tickets_28 11 rfl rfl)
theorem dX48_tickets_665 : decode cX48_tickets 665 = .ok (.iconst 1, 1) := dk_4 (dk_at dksX48_tickets_28 14 rfl rfl)
theorem dX48_tickets_666 : decode cX48_tickets 666 = .ok (.laload, 1) := dk_47 (dk_at dksX48_tickets_28 15 rfl rfl)
theorem dX48_tickets_667 : decode cX48_tickets 667 = .ok (.l2i, 1) := dk_136 (dk_at dksX48_tickets_28 16 rfl rfl)
theorem dX48_tickets_668 : decode cX48_tickets 668 = .ok (.invokevirtual 505, 3) := dk_182 1 249 (dk_at dksX48_tickets_28 17 rfl rfl)
theorem dX48_tickets_671 : decode cX48_tickets 671 = .ok (.i2l, 1) := dk_133 (dk_at dksX48_tickets_28 20 rfl rfl)
theorem dX48_tickets_672 : decode cX48_tickets 672 = .ok (.goto 4, 3) := dk_167 0 4 (dk_at dksX48_tickets_28 21 rfl rfl)
theorem dX48_tickets_675 : decode cX48_tickets 675 = .ok (.lconst 0, 1) := dk_9 (dk_at dksX48_tickets_29 0 rfl rfl)
theorem dX48_tickets_676 : decode cX48_tickets 676 = .ok (.lreturn, 1) := dk_173 (dk_at dksX48_tickets_29 1 rfl rfl)
theorem dX48_tickets_677 : decode cX48_tickets 677 = .ok (.aload_n 0, 1) := dk_42 (dk_at dksX48_tickets_29 2 rfl rfl)
theorem dX48_tickets_678 : decode cX48_tickets 678 = .ok (.ldc_w 508, 3) := dk_19 1 252 (dk_at dksX48_tickets_29 3 rfl rfl)
theorem dX48_tickets_681 : decode cX48_tickets 681 = .ok (.ldc_w 292, 3) := dk_19 1 36 (dk_at dksX48_tickets_29 6 rfl rfl)
theorem dX48_tickets_684 : decode cX48_tickets 684 = .ok (.invokevirtual 263, 3) := dk_182 1 7 (dk_at dksX48_tickets_29 9 rfl rfl)
theorem dX48_tickets_687 : decode cX48_tickets 687 = .ok (.ifCond .eq 37, 3) := dk_153 0 37 (dk_at dksX48_tickets_29 12 rfl rfl)
theorem dX48_tickets_690 : decode cX48_tickets 690 = .ok (.aload_n 0, 1) := dk_42 (dk_at dksX48_tickets_29 15 rfl rfl)
theorem dX48_tickets_691 : decode cX48_tickets 691 = .ok (.getfield 167, 3) := dk_180 0 167 (dk_at dksX48_tickets_29 16 rfl rfl)
theorem dX48_tickets_694 : decode cX48_tickets 694 = .ok (.ifCond .ge 28, 3) := dk_156 0 28 (dk_at dksX48_tickets_29 19 rfl rfl)
theorem dX48_tickets_697 : decode cX48_tickets 697 = .ok (.aload_n 0, 1) := dk_42 (dk_at dksX48_tickets_29 22 rfl rfl)
theorem dX48_tickets_698 : decode cX48_tickets 698 = .ok (.getfield 10, 3) := dk_180 0 10 (dk_at dksX48_tickets_30 0 rfl rfl)
theorem dX48_tickets_701 : decode cX48_tickets 701 = .ok (.aload_n 0, 1) := dk_42 (dk_at dksX48_tickets_30 3 rfl rfl)
theorem dX48_tickets_702 : decode cX48_tickets 702 = .ok (.getfield 99, 3) := dk_180 0 99 (dk_at dksX48_tickets_30 4 rfl rfl)
theorem dX48_tickets_705 : decode cX48_tickets 705 = .ok (.iconst 0, 1) := dk_3 (dk_at dksX48_tickets_30 7 rfl rfl)
theorem dX48_tickets_706 : decode cX48_tickets 706 = .ok (.laload, 1) := dk_47 (dk_at dksX48_tickets_30 8 rfl rfl)
theorem dX48_tickets_707 : decode cX48_tickets 707 = .ok (.l2i, 1) := dk_136 (dk_at dksX48_tickets_30 9 rfl rfl)
theorem dX48_tickets_708 : decode cX48_tickets 708 = .ok (.aload_n 0, 1) := dk_42 (dk_at dksX48_tickets_30 10 rfl rfl)
theorem dX48_tickets_709 : decode cX48_tickets 709 = .ok (.getfield 99, 3) := dk_180 0 99 (dk_at dksX48_tickets_30 11 rfl rfl)
theorem dX48_tickets_712 : decode cX48_tickets 712 = .ok (.iconst 1, 1) := dk_4 (dk_at dksX48_tickets_30 14 rfl rfl)
theorem dX48_tickets_713 : decode cX48_tickets 713 = .ok (.laload, 1) := dk_47 (dk_at dksX48_tickets_30 15 rfl rfl)
theorem dX48_tickets_714 : decode cX48_tickets 714 = .ok (.l2i, 1) := dk_136 (dk_at dksX48_tickets_30 16 rfl rfl)
theorem dX48_tickets_715 : decode cX48_tickets 715 = .ok (.invokevirtual 510, 3) := dk_182 1 254 (dk_at dksX48_tickets_30 17 rfl rfl)
theorem dX48_tickets_718 : decode cX48_tickets 718 = .ok (.i2l, 1) := dk_133 (dk_at dksX48_tickets_30 20 rfl rfl)
theorem dX48_tickets_719 : decode cX48_tickets 719 = .ok (.goto 4, 3) := dk_167 0 4 (dk_at dksX48_tickets_30 21 rfl rfl)
theorem dX48_tickets_722 : decode cX48_tickets 722 = .ok (.lconst 0, 1) := dk_9 (dk_at dksX48_tickets_31 0 rfl rfl)
theorem dX48_tickets_723 : decode cX48_tickets 723 = .ok (.lreturn, 1) := dk_173 (dk_at dksX48_tickets_31 1 rfl rfl)
theorem dX48_tickets_724 : decode cX48_tickets 724 = .ok (.aload_n 0, 1) := dk_42 (dk_at dksX48_tickets_31 2 rfl rfl)
theorem dX48_tickets_725 : decode cX48_tickets 725 = .ok (.ldc_w 512, 3) := dk_19 2 0 (dk_at dksX48_tickets_31 3 rfl rfl)
theorem dX48_tickets_728 : decode cX48_tickets 728 = .ok (.ldc_w 278, 3) := dk_19 1 22 (dk_at dksX48_tickets_31 6 rfl rfl)
theorem dX48_tickets_731 : decode cX48_tickets 731 = .ok (.invokevirtual 263, 3) := dk_182 1 7 (dk_at dksX48_tickets_31 9 rfl rfl)
theorem dX48_tickets_734 : decode cX48_tickets 734 = .ok (.ifCond .eq 30, 3) := dk_153 0 30 (dk_at dksX48_tickets_31 12 rfl rfl)
theorem dX48_tickets_737 : decode cX48_tickets 737 = .ok (.aload_n 0, 1) := dk_42 (dk_at dksX48_tickets_31 15 rfl rfl)
theorem dX48_tickets_738 : decode cX48_tickets 738 = .ok (.getfield 167, 3) := dk_180 0 167 (dk_at dksX48_tickets_31 16 rfl rfl)
theorem dX48_tickets_741 : decode cX48_tickets 741 = .ok (.ifCond .ge 21, 3) := dk_156 0 21 (dk_at dksX48_tickets_31 19 rfl rfl)
theorem dX48_tickets_744 : decode cX48_tickets 744 = .ok (.aload_n 0, 1) := dk_42 (dk_at dksX48_tickets_31 22 rfl rfl)
theorem dX48_tickets_745 : decode cX48_tickets 745 = .ok (.getfield 10, 3) := dk_180 0 10 (dk_at dksX48_tickets_32 0 rfl rfl)
theorem dX48_tickets_748 : decode cX48_tickets 748 = .ok (.aload_n 0, 1) := dk_42 (dk_at dksX48_tickets_32 3 rfl rfl)
theorem dX48_tickets_749 : decode cX48_tickets 749 = .ok (.getfield 99, 3) := dk_180 0 99 (dk_at dksX48_tickets_32 4 rfl rfl)
theorem dX48_tickets_752 : decode cX48_tickets 752 = .ok (.iconst 0, 1) := dk_3 (dk_at dksX48_tickets_32 7 rfl rfl)
theorem dX48_tickets_753 : decode cX48_tickets 753 = .ok (.laload, 1) := dk_47 (dk_at dksX48_tickets_32 8 rfl rfl)
theorem dX48_tickets_754 : decode cX48_tickets 754 = .ok (.l2i, 1) := dk_136 (dk_at dksX48_tickets_32 9 rfl rfl)
theorem dX48_tickets_755 : decode cX48_tickets 755 = .ok (.invokevirtual 236, 3) := dk_182 0 236 (dk_at dksX48_tickets_32 10 rfl rfl)
theorem dX48_tickets_758 : decode cX48_tickets 758 = .ok (.i2l, 1) := dk_133 (dk_at dksX48_tickets_32 13 rfl rfl)
theorem dX48_tickets_759 : decode cX48_tickets 759 = .ok (.goto 4, 3) := dk_167 0 4 (dk_at dksX48_tickets_32 14 rfl rfl)
theorem dX48_tickets_762 : decode cX48_tickets 762 = .ok (.lconst 0, 1) := dk_9 (dk_at dksX48_tickets_32 17 rfl rfl)
theorem dX48_tickets_763 : decode cX48_tickets 763 = .ok (.lreturn, 1) := dk_173 (dk_at dksX48_tickets_32 18 rfl rfl)
theorem dX48_tickets_764 : decode cX48_tickets 764 = .ok (.aload_n 0, 1) := dk_42 (dk_at dksX48_tickets_32 19 rfl rfl)
theorem dX48_tickets_765 : decode cX48_tickets 765 = .ok (.ldc_w 513, 3) := dk_19 2 1 (dk_at dksX48_tickets_32 20 rfl rfl)
theorem dX48_tickets_768 : decode cX48_tickets 768 = .ok (.ldc_w 292, 3) := dk_19 1 36 (dk_at dksX48_tickets_33 0 rfl rfl)
theorem dX48_tickets_771 : decode cX48_tickets 771 = .ok (.invokevirtual 263, 3) := dk_182 1 7 (dk_at dksX48_tickets_33 3 rfl rfl)
theorem dX48_tickets_774 : decode cX48_tickets 774 = .ok (.ifCond .eq 37, 3) := dk_153 0 37 (dk_at dksX48_tickets_33 6 rfl rfl)
theorem dX48_tickets_777 : decode cX48_tickets 777 = .ok (.aload_n 0, 1) := dk_42 (dk_at dksX48_tickets_33 9 rfl rfl)
theorem dX48_tickets_778 : decode cX48_tickets 778 = .ok (.getfield 167, 3) := dk_180 0 167 (dk_at dksX48_tickets_33 10 rfl rfl)
theorem dX48_tickets_781 : decode cX48_tickets 781 = .ok (.ifCond .ge 28, 3) := dk_156 0 28 (dk_at dksX48_tickets_33 13 rfl rfl)
theorem dX48_tickets_784 : decode cX48_tickets 784 = .ok (.aload_n 0, 1) := dk_42 (dk_at dksX48_tickets_33 16 rfl rfl)
theorem dX48_tickets_785 : decode cX48_tickets 785 = .ok (.getfield 10, 3) := dk_180 0 10 (dk_at dksX48_tickets_33 17 rfl rfl)
theorem dX48_tickets_788 : decode cX48_tickets 788 = .ok (.aload_n 0, 1) := dk_42 (dk_at dksX48_tickets_33 20 rfl rfl)
theorem dX48_tickets_789 : decode cX48_tickets 789 = .ok (.getfield 99, 3) := dk_180 0 99 (dk_at dksX48_tickets_33 21 rfl rfl)
theorem dX48_tickets_792 : decode cX48_tickets 792 = .ok (.iconst 0, 1) := dk_3 (dk_at dksX48_tickets_34 0 rfl rfl)
theorem dX48_tickets_793 : decode cX48_tickets 793 = .ok (.laload, 1) := dk_47 (dk_at dksX48_tickets_34 1 rfl rfl)
theorem dX48_tickets_794 : decode cX48_tickets 794 = .ok (.l2i, 1) := dk_136 (dk_at dksX48_tickets_34 2 rfl rfl)
theorem dX48_tickets_795 : decode cX48_tickets 795 = .ok (.aload_n 0, 1) := dk_42 (dk_at dksX48_tickets_34 3 rfl rfl)
theorem dX48_tickets_796 : decode cX48_tickets 796 = .ok (.getfield 99, 3) := dk_180 0 99 (dk_at dksX48_tickets_34 4 rfl rfl)
theorem dX48_tickets_799 : decode cX48_tickets 799 = .ok (.iconst 1, 1) := dk_4 (dk_at dksX48_tickets_34 7 rfl rfl)
theorem dX48_tickets_800 : decode cX48_tickets 800 = .ok (.laload, 1) := dk_47 (dk_at dksX48_tickets_34 8 rfl rfl)
theorem dX48_tickets_801 : decode cX48_tickets 801 = .ok (.l2i, 1) := dk_136 (dk_at dksX48_tickets_34 9 rfl rfl)
theorem dX48_tickets_802 : decode cX48_tickets 802 = .ok (.invokevirtual 515, 3) := dk_182 2 3 (dk_at dksX48_tickets_34 10 rfl rfl)
theorem dX48_tickets_805 : decode cX48_tickets 805 = .ok (.i2l, 1) := dk_133 (dk_at dksX48_tickets_34 13 rfl rfl)
theorem dX48_tickets_806 : decode cX48_tickets 806 = .ok (.goto 4, 3) := dk_167 0 4 (dk_at dksX48_tickets_34 14 rfl rfl)
theorem dX48_tickets_809 : decode cX48_tickets 809 = .ok (.lconst 0, 1) := dk_9 (dk_at dksX48_tickets_34 17 rfl rfl)
theorem dX48_tickets_810 : decode cX48_tickets 810 = .ok (.lreturn, 1) := dk_173 (dk_at dksX48_tickets_34 18 rfl rfl)
theorem dX48_tickets_811 : decode cX48_tickets 811 = .ok (.aload_n 0, 1) := dk_42 (dk_at dksX48_tickets_34 19 rfl rfl)
theorem dX48_tickets_812 : decode cX48_tickets 812 = .ok (.invokevirtual 332, 3) := dk_182 1 76 (dk_at dksX48_tickets_34 20 rfl rfl)
theorem dX48_tickets_815 : decode cX48_tickets 815 = .ok (.lreturn, 1) := dk_173 (dk_at dksX48_tickets_34 23 rfl rfl)
abbrev cX48_line : ByteArray := prog_56_method_39_code
def yX48_line : MethodName := ⟨RX48, "line", "()J"⟩
def dkwX48_line_35 : List UInt8 := [182, 2, 64, 184, 1, 72, 167, 0, 4, 9, 173, 42, 182, 1, 76, 173]
abbrev dktX48_line_35 : List UInt8 := dkwX48_line_35 ++ []
def dkwX48_line_34 : List UInt8 := [19, 2, 63, 19, 1, 16, 182, 1, 7, 153, 0, 25, 42, 180, 0, 167, 156, 0, 16, 42, 180, 0, 21]
abbrev dktX48_line_34 : List UInt8 := dkwX48_line_34 ++ dktX48_line_35
def dkwX48_line_33 : List UInt8 := [180, 0, 99, 4, 47, 136, 42, 180, 0, 99, 5, 47, 182, 2, 60, 133, 167, 0, 4, 9, 173, 42]
abbrev dktX48_line_33 : List UInt8 := dkwX48_line_33 ++ dktX48_line_34
def dkwX48_line_32 : List UInt8 := [153, 0, 43, 42, 180, 0, 167, 156, 0, 34, 42, 180, 0, 21, 42, 180, 0, 99, 3, 47, 136, 42]
abbrev dktX48_line_32 : List UInt8 := dkwX48_line_32 ++ dktX48_line_33
def dkwX48_line_31 : List UInt8 := [47, 182, 2, 56, 184, 1, 72, 167, 0, 4, 9, 173, 42, 19, 2, 58, 19, 1, 195, 182, 1, 7]
abbrev dktX48_line_31 : List UInt8 := dkwX48_line_31 ++ dktX48_line_32
def dkwX48_line_30 : List UInt8 := [180, 0, 99, 4, 47, 136, 42, 180, 0, 99, 5, 47, 136, 42, 180, 0, 99, 6, 47, 42, 180, 0, 99, 7]
abbrev dktX48_line_30 : List UInt8 := dkwX48_line_30 ++ dktX48_line_31
def dkwX48_line_29 : List UInt8 := [153, 0, 58, 42, 180, 0, 167, 156, 0, 49, 42, 180, 0, 21, 42, 180, 0, 99, 3, 47, 136, 42]
abbrev dktX48_line_29 : List UInt8 := dkwX48_line_29 ++ dktX48_line_30
def dkwX48_line_28 : List UInt8 := [180, 0, 99, 5, 47, 136, 182, 2, 52, 167, 0, 4, 9, 173, 42, 19, 2, 54, 19, 2, 18, 182, 1, 7]
abbrev dktX48_line_28 : List UInt8 := dkwX48_line_28 ++ dktX48_line_29
def dkwX48_line_27 : List UInt8 := [156, 0, 34, 42, 180, 0, 21, 42, 180, 0, 99, 3, 47, 136, 42, 180, 0, 99, 4, 47, 136, 42]
abbrev dktX48_line_27 : List UInt8 := dkwX48_line_27 ++ dktX48_line_28
def dkwX48_line_26 : List UInt8 := [167, 0, 4, 9, 173, 42, 19, 2, 50, 19, 1, 242, 182, 1, 7, 153, 0, 43, 42, 180, 0, 167]
abbrev dktX48_line_26 : List UInt8 := dkwX48_line_26 ++ dktX48_line_27
def dkwX48_line_25 : List UInt8 := [42, 180, 0, 99, 5, 47, 136, 42, 180, 0, 99, 6, 47, 136, 42, 180, 0, 99, 7, 47, 136, 182, 2, 47]
abbrev dktX48_line_25 : List UInt8 := dkwX48_line_25 ++ dktX48_line_26
def dkwX48_line_24 : List UInt8 := [180, 0, 167, 156, 0, 48, 42, 180, 0, 21, 42, 180, 0, 99, 3, 47, 136, 42, 180, 0, 99, 4, 47, 136]
abbrev dktX48_line_24 : List UInt8 := dkwX48_line_24 ++ dktX48_line_25
def dkwX48_line_23 : List UInt8 := [182, 2, 41, 133, 167, 0, 4, 9, 173, 42, 19, 2, 43, 19, 2, 45, 182, 1, 7, 153, 0, 57, 42]
abbrev dktX48_line_23 : List UInt8 := dkwX48_line_23 ++ dktX48_line_24
def dkwX48_line_22 : List UInt8 := [182, 1, 7, 153, 0, 30, 42, 180, 0, 167, 156, 0, 21, 42, 180, 0, 21, 42, 180, 0, 99, 3, 47, 136]
abbrev dktX48_line_22 : List UInt8 := dkwX48_line_22 ++ dktX48_line_23
def dkwX48_line_21 : List UInt8 := [180, 0, 99, 5, 47, 182, 2, 37, 184, 1, 72, 167, 0, 4, 9, 173, 42, 19, 2, 39, 19, 1, 22]
abbrev dktX48_line_21 : List UInt8 := dkwX48_line_21 ++ dktX48_line_22
def dkwX48_line_20 : List UInt8 := [180, 0, 167, 156, 0, 35, 42, 180, 0, 21, 42, 180, 0, 99, 3, 47, 136, 42, 180, 0, 99, 4, 47, 42]
abbrev dktX48_line_20 : List UInt8 := dkwX48_line_20 ++ dktX48_line_21
def dkwX48_line_19 : List UInt8 := [182, 2, 31, 167, 0, 4, 9, 173, 42, 19, 2, 33, 19, 2, 35, 182, 1, 7, 153, 0, 44, 42]
abbrev dktX48_line_19 : List UInt8 := dkwX48_line_19 ++ dktX48_line_20
def dkwX48_line_18 : List UInt8 := [180, 0, 167, 156, 0, 27, 42, 180, 0, 21, 42, 180, 0, 99, 3, 47, 136, 42, 180, 0, 99, 4, 47, 136]
abbrev dktX48_line_18 : List UInt8 := dkwX48_line_18 ++ dktX48_line_19
def dkwX48_line_17 : List UInt8 := [182, 1, 104, 167, 0, 4, 9, 173, 42, 19, 2, 30, 19, 1, 36, 182, 1, 7, 153, 0, 36, 42]
abbrev dktX48_line_17 : List UInt8 := dkwX48_line_17 ++ dktX48_line_18
def dkwX48_line_16 : List UInt8 := [180, 0, 21, 42, 180, 0, 99, 3, 47, 136, 42, 180, 0, 99, 4, 47, 136, 42, 180, 0, 99, 5, 47, 136]
abbrev dktX48_line_16 : List UInt8 := dkwX48_line_16 ++ dktX48_line_17
def dkwX48_line_15 : List UInt8 := [9, 173, 42, 19, 2, 29, 19, 1, 242, 182, 1, 7, 153, 0, 43, 42, 180, 0, 167, 156, 0, 34, 42]
abbrev dktX48_line_15 : List UInt8 := dkwX48_line_15 ++ dktX48_line_16
def dkwX48_line_14 : List UInt8 := [182, 1, 7, 153, 0, 23, 42, 180, 0, 167, 156, 0, 14, 42, 180, 0, 21, 182, 1, 101, 133, 167, 0, 4]
abbrev dktX48_line_14 : List UInt8 := dkwX48_line_14 ++ dktX48_line_15
def dkwX48_line_13 : List UInt8 := [42, 180, 0, 99, 5, 47, 182, 1, 97, 184, 1, 72, 167, 0, 4, 9, 173, 42, 19, 2, 28, 19, 1, 16]
abbrev dktX48_line_13 : List UInt8 := dkwX48_line_13 ++ dktX48_line_14
def dkwX48_line_12 : List UInt8 := [180, 0, 167, 156, 0, 36, 42, 180, 0, 21, 42, 180, 0, 99, 3, 47, 136, 42, 180, 0, 99, 4, 47, 136]
abbrev dktX48_line_12 : List UInt8 := dkwX48_line_12 ++ dktX48_line_13
def dkwX48_line_11 : List UInt8 := [184, 1, 72, 167, 0, 4, 9, 173, 42, 19, 2, 27, 19, 1, 195, 182, 1, 7, 153, 0, 45, 42]
abbrev dktX48_line_11 : List UInt8 := dkwX48_line_11 ++ dktX48_line_12
def dkwX48_line_10 : List UInt8 := [42, 180, 0, 99, 5, 47, 136, 42, 180, 0, 99, 6, 47, 42, 180, 0, 99, 7, 47, 182, 2, 25]
abbrev dktX48_line_10 : List UInt8 := dkwX48_line_10 ++ dktX48_line_11
def dkwX48_line_9 : List UInt8 := [180, 0, 167, 156, 0, 49, 42, 180, 0, 21, 42, 180, 0, 99, 3, 47, 136, 42, 180, 0, 99, 4, 47, 136]
abbrev dktX48_line_9 : List UInt8 := dkwX48_line_9 ++ dktX48_line_10
def dkwX48_line_8 : List UInt8 := [184, 1, 72, 167, 0, 4, 9, 173, 42, 19, 2, 23, 19, 2, 18, 182, 1, 7, 153, 0, 58, 42]
abbrev dktX48_line_8 : List UInt8 := dkwX48_line_8 ++ dktX48_line_9
def dkwX48_line_7 : List UInt8 := [136, 42, 180, 0, 99, 5, 47, 136, 42, 180, 0, 99, 6, 47, 42, 180, 0, 99, 7, 47, 182, 2, 20]
abbrev dktX48_line_7 : List UInt8 := dkwX48_line_7 ++ dktX48_line_8
def dkwX48_line_6 : List UInt8 := [42, 180, 0, 167, 156, 0, 49, 42, 180, 0, 21, 42, 180, 0, 99, 3, 47, 136, 42, 180, 0, 99, 4, 47]
abbrev dktX48_line_6 : List UInt8 := dkwX48_line_6 ++ dktX48_line_7
def dkwX48_line_5 : List UInt8 := [182, 2, 15, 184, 1, 72, 167, 0, 4, 9, 173, 42, 19, 1, 236, 19, 2, 18, 182, 1, 7, 153, 0, 58]
abbrev dktX48_line_5 : List UInt8 := dkwX48_line_5 ++ dktX48_line_6
def dkwX48_line_4 : List UInt8 := [180, 0, 21, 42, 180, 0, 99, 3, 47, 136, 42, 180, 0, 99, 4, 47, 136, 42, 180, 0, 99, 5, 47, 136]
abbrev dktX48_line_4 : List UInt8 := dkwX48_line_4 ++ dktX48_line_5
def dkwX48_line_3 : List UInt8 := [9, 173, 42, 19, 2, 13, 19, 1, 242, 182, 1, 7, 153, 0, 46, 42, 180, 0, 167, 156, 0, 37, 42]
abbrev dktX48_line_3 : List UInt8 := dkwX48_line_3 ++ dktX48_line_4
def dkwX48_line_2 : List UInt8 := [182, 1, 7, 153, 0, 23, 42, 180, 0, 167, 156, 0, 14, 42, 180, 0, 21, 182, 2, 11, 133, 167, 0, 4]
abbrev dktX48_line_2 : List UInt8 := dkwX48_line_2 ++ dktX48_line_3
def dkwX48_line_1 : List UInt8 := [42, 180, 0, 99, 3, 47, 136, 182, 2, 7, 133, 167, 0, 4, 9, 173, 42, 19, 2, 9, 19, 1, 16]
abbrev dktX48_line_1 : List UInt8 := dkwX48_line_1 ++ dktX48_line_2
def dkwX48_line_0 : List UInt8 := [42, 19, 2, 5, 19, 1, 22, 182, 1, 7, 153, 0, 30, 42, 180, 0, 167, 156, 0, 21, 42, 180, 0, 21]
abbrev dktX48_line_0 : List UInt8 := dkwX48_line_0 ++ dktX48_line_1
theorem dksX48_line_0 : cX48_line.data.toList.drop 0 = dktX48_line_0 := by decide +kernel
theorem dksX48_line_1 : cX48_line.data.toList.drop 24 = dktX48_line_1 := dk_seg dksX48_line_0 24 rfl rfl
theorem dksX48_line_2 : cX48_line.data.toList.drop 47 = dktX48_line_2 := dk_seg dksX48_line_1 23 rfl rfl
theorem dksX48_line_3 : cX48_line.data.toList.drop 71 = dktX48_line_3 := dk_seg dksX48_line_2 24 rfl rfl
theorem dksX48_line_4 : cX48_line.data.toList.drop 94 = dktX48_line_4 := dk_seg dksX48_line_3 23 rfl rfl
theorem dksX48_line_5 : cX48_line.data.toList.drop 118 = dktX48_line_5 := dk_seg dksX48_line_4 24 rfl rfl
theorem dksX48_line_6 : cX48_line.data.toList.drop 142 = dktX48_line_6 := dk_seg dksX48_line_5 24 rfl rfl
theorem dksX48_line_7 : cX48_line.data.toList.drop 166 = dktX48_line_7 := dk_seg dksX48_line_6 24 rfl rfl
theorem dksX48_line_8 : cX48_line.data.toList.drop 189 = dktX48_line_8 := dk_seg dksX48_line_7 23 rfl rfl
theorem dksX48_line_9 : cX48_line.data.toList.drop 211 = dktX48_line_9 := dk_seg dksX48_line_8 22 rfl rfl
theorem dksX48_line_10 : cX48_line.data.toList.drop 235 = dktX48_line_10 := dk_seg dksX48_line_9 24 rfl rfl
theorem dksX48_line_11 : cX48_line.data.toList.drop 257 = dktX48_line_11 := dk_seg dksX48_line_10 22 rfl rfl
theorem dksX48_line_12 : cX48_line.data.toList.drop 279 = dktX48_line_12 := dk_seg dksX48_line_11 22 rfl rfl
theorem dksX48_line_13 : cX48_line.data.toList.drop 303 = dktX48_line_13 := dk_seg dksX48_line_12 24 rfl rfl
theorem dksX48_line_14 : cX48_line.data.toList.drop 327 = dktX48_line_14 := dk_seg dksX48_line_13 24 rfl rfl
theorem dksX48_line_15 : cX48_line.data.toList.drop 351 = dktX48_line_15 := dk_seg dksX48_line_14 24 rfl rfl
theorem dksX48_line_16 : cX48_line.data.toList.drop 374 = dktX48_line_16 := dk_seg dksX48_line_15 23 rfl rfl
theorem dksX48_line_17 : cX48_line.data.toList.drop 398 = dktX48_line_17 := dk_seg dksX48_line_16 24 rfl rfl
theorem dksX48_line_18 : cX48_line.data.toList.drop 420 = dktX48_line_18 := dk_seg dksX48_line_17 22 rfl rfl
theorem dksX48_line_19 : cX48_line.data.toList.drop 444 = dktX48_line_19 := dk_seg dksX48_line_18 24 rfl rfl
theorem dksX48_line_20 : cX48_line.data.toList.drop 466 = dktX48_line_20 := dk_seg dksX48_line_19 22 rfl rfl
theorem dksX48_line_21 : cX48_line.data.toList.drop 490 = dktX48_line_21 := dk_seg dksX48_line_20 24 rfl rfl
theorem dksX48_line_22 : cX48_line.data.toList.drop 513 = dktX48_line_22 := dk_seg dksX48_line_21 23 rfl rfl
theorem dksX48_line_23 : cX48_line.data.toList.drop 537 = dktX48_line_23 := dk_seg dksX48_line_22 24 rfl rfl
theorem dksX48_line_24 : cX48_line.data.toList.drop 560 = dktX48_line_24 := dk_seg dksX48_line_23 23 rfl rfl
theorem dksX48_line_25 : cX48_line.data.toList.drop 584 = dktX48_line_25 := dk_seg dksX48_line_24 24 rfl rfl
theorem dksX48_line_26 : cX48_line.data.toList.drop 608 = dktX48_line_26 := dk_seg dksX48_line_25 24 rfl rfl
theorem dksX48_line_27 : cX48_line.data.toList.drop 630 = dktX48_line_27 := dk_seg dksX48_line_26 22 rfl rfl
theorem dksX48_line_28 : cX48_line.data.toList.drop 652 = dktX48_line_28 := dk_seg dksX48_line_27 22 rfl rfl
theorem dksX48_line_29 : cX48_line.data.toList.drop 676 = dktX48_line_29 := dk_seg dksX48_line_28 24 rfl rfl
theorem dksX48_line_30 : cX48_line.data.toList.drop 698 = dktX48_line_30 := dk_seg dksX48_line_29 22 rfl rfl
theorem dksX48_line_31 : cX48_line.data.toList.drop 722 = dktX48_line_31 := dk_seg dksX48_line_30 24 rfl rfl
theorem dksX48_line_32 : cX48_line.data.toList.drop 744 = dktX48_line_32 := dk_seg dksX48_line_31 22 rfl rfl
theorem dksX48_line_33 : cX48_line.data.toList.drop 766 = dktX48_line_33 := dk_seg dksX48_line_32 22 rfl rfl
theorem dksX48_line_34 : cX48_line.data.toList.drop 788 = dktX48_line_34 := dk_seg dksX48_line_33 22 rfl rfl
theorem dksX48_line_35 : cX48_line.data.toList.drop 811 = dktX48_line_35 := dk_seg dksX48_line_34 23 rfl rfl
theorem dX48_line_0 : decode cX48_line 0 = .ok (.aload_n 0, 1) := dk_42 (dk_at dksX48_line_0 0 rfl rfl)
theorem dX48_line_1 : decode cX48_line 1 = .ok (.ldc_w 517, 3) := dk_19 2 5 (dk_at dksX48_line_0 1 rfl rfl)
theorem dX48_line_4 : decode cX48_line 4 = .ok (.ldc_w 278, 3) := dk_19 1 22 (dk_at dksX48_line_0 4 rfl rfl)
theorem dX48_line_7 : decode cX48_line 7 = .ok (.invokevirtual 263, 3) := dk_182 1 7 (dk_at dksX48_line_0 7 rfl rfl)
theorem dX48_line_10 : decode cX48_line 10 = .ok (.ifCond .eq 30, 3) := dk_153 0 30 (dk_at dksX48_line_0 10 rfl rfl)
theorem dX48_line_13 : decode cX48_line 13 = .ok (.aload_n 0, 1) := dk_42 (dk_at dksX48_line_0 13 rfl rfl)
theorem dX48_line_14 : decode cX48_line 14 = .ok (.getfield 167, 3) := dk_180 0 167 (dk_at dksX48_line_0 14 rfl rfl)
theorem dX48_line_17 : decode cX48_line 17 = .ok (.ifCond .ge 21, 3) := dk_156 0 21 (dk_at dksX48_line_0 17 rfl rfl)
theorem dX48_line_20 : decode cX48_line 20 = .ok (.aload_n 0, 1) := dk_42 (dk_at dksX48_line_0 20 rfl rfl)
theorem dX48_line_21 : decode cX48_line 21 = .ok (.getfield 21, 3) := dk_180 0 21 (dk_at dksX48_line_0 21 rfl rfl)
theorem dX48_line_24 : decode cX48_line 24 = .ok (.aload_n 0, 1) := dk_42 (dk_at dksX48_line_1 0 rfl rfl)
theorem dX48_line_25 : decode cX48_line 25 = .ok (.getfield 99, 3) := dk_180 0 99 (dk_at dksX48_line_1 1 rfl rfl)
theorem dX48_line_28 : decode cX48_line 28 = .ok (.iconst 0, 1) := dk_3 (dk_at dksX48_line_1 4 rfl rfl)
theorem dX48_line_29 : decode cX48_line 29 = .ok (.laload, 1) := dk_47 (dk_at dksX48_line_1 5 rfl rfl)
theorem dX48_line_30 : decode cX48_line 30 = .ok (.l2i, 1) := dk_136 (dk_at dksX48_line_1 6 rfl rfl)
theorem dX48_line_31 : decode cX48_line 31 = .ok (.invokevirtual 519, 3) := dk_182 2 7 (dk_at dksX48_line_1 7 rfl rfl)
theorem dX48_line_34 : decode cX48_line 34 = .ok (.i2l, 1) := dk_133 (dk_at dksX48_line_1 10 rfl rfl)
theorem dX48_line_35 : decode cX48_line 35 = .ok (.goto 4, 3) := dk_167 0 4 (dk_at dksX48_line_1 11 rfl rfl)
theorem dX48_line_38 : decode cX48_line 38 = .ok (.lconst 0, 1) := dk_9 (dk_at dksX48_line_1 14 rfl rfl)
theorem dX48_line_39 : decode cX48_line 39 = .ok (.lreturn, 1) := dk_173 (dk_at dksX48_line_1 15 rfl rfl)
theorem dX48_line_40 : decode cX48_line 40 = .ok (.aload_n 0, 1) := dk_42 (dk_at dksX48_line_1 16 rfl rfl)
theorem dX48_line_41 : decode cX48_line 41 = .ok (.ldc_w 521, 3) := dk_19 2 9 (dk_at dksX48_line_1 17 rfl rfl)
theorem dX48_line_44 : decode cX48_line 44 = .ok (.ldc_w 272, 3) := dk_19 1 16 (dk_at dksX48_line_1 20 rfl rfl)
theorem dX48_line_47 : decode cX48_line 47 = .ok (.invokevirtual 263, 3) := dk_182 1 7 (dk_at dksX48_line_2 0 rfl rfl)
theorem dX48_line_50 : decode cX48_line 50 = .ok (.ifCond .eq 23, 3) := dk_153 0 23 (dk_at dksX48_line_2 3 rfl rfl)
theorem dX48_line_53 : decode cX48_line 53 = .ok (.aload_n 0, 1) := dk_42 (dk_at dksX48_line_2 6 rfl rfl)
theorem dX48_line_54 : decode cX48_line 54 = .ok (.getfield 167, 3) := dk_180 0 167 (dk_at dksX48_line_2 7 rfl rfl)
theorem dX48_line_57 : decode cX48_line 57 = .ok (.ifCond .ge 14, 3) := dk_156 0 14 (dk_at dksX48_line_2 10 rfl rfl)
theorem dX48_line_60 : decode cX48_line 60 = .ok (.aload_n 0, 1) := dk_42 (dk_at dksX48_line_2 13 rfl rfl)
theorem dX48_line_61 : decode cX48_line 61 = .ok (.getfield 21, 3) := dk_180 0 21 (dk_at dksX48_line_2 14 rfl rfl)
theorem dX48_line_64 : decode cX48_line 64 = .ok (.invokevirtual 523, 3) := dk_182 2 11 (dk_at dksX48_line_2 17 rfl rfl)
theorem dX48_line_67 : decode cX48_line 67 = .ok (.i2l, 1) := dk_133 (dk_at dksX48_line_2 20 rfl rfl)
theorem dX48_line_68 : decode cX48_line 68 = .ok (.goto 4, 3) := dk_167 0 4 (dk_at dksX48_line_2 21 rfl rfl)
theorem dX48_line_71 : decode cX48_line 71 = .ok (.lconst 0, 1) := dk_9 (dk_at dksX48_line_3 0 rfl rfl)
theorem dX48_line_72 : decode cX48_line 72 = .ok (.lreturn, 1) := dk_173 (dk_at dksX48_line_3 1 rfl rfl)
theorem dX48_line_73 : decode cX48_line 73 = .ok (.aload_n 0, 1) := dk_42 (dk_at dksX48_line_3 2 rfl rfl)
theorem dX48_line_74 : decode cX48_line 74 = .ok (.ldc_w 525, 3) := dk_19 2 13 (dk_at dksX48_line_3 3 rfl rfl)
theorem dX48_line_77 : decode cX48_line 77 = .ok (.ldc_w 498, 3) := dk_19 1 242 (dk_at dksX48_line_3 6 rfl rfl)
theorem dX48_line_80 : decode cX48_line 80 = .ok (.invokevirtual 263, 3) := dk_182 1 7 (dk_at dksX48_line_3 9 rfl rfl)
theorem dX48_line_83 : decode cX48_line 83 = .ok (.ifCond .eq 46, 3) := dk_153 0 46 (dk_at dksX48_line_3 12 rfl rfl)
theorem dX48_line_86 : decode cX48_line 86 = .ok (.aload_n 0, 1) := dk_42 (dk_at dksX48_line_3 15 rfl rfl)
theorem dX48_line_87 : decode cX48_line 87 = .ok (.getfield 167, 3) := dk_180 0 167 (dk_at dksX48_line_3 16 rfl rfl)
theorem dX48_line_90 : decode cX48_line 90 = .ok (.ifCond .ge 37, 3) := dk_156 0 37 (dk_at dksX48_line_3 19 rfl rfl)
theorem dX48_line_93 : decode cX48_line 93 = .ok (.aload_n 0, 1) := dk_42 (dk_at dksX48_line_3 22 rfl rfl)
theorem dX48_line_94 : decode cX48_line 94 = .ok (.getfield 21, 3) := dk_180 0 21 (dk_at dksX48_line_4 0 rfl rfl)
theorem dX48_line_97 : decode cX48_line 97 = .ok (.aload_n 0, 1) := dk_42 (dk_at dksX48_line_4 3 rfl rfl)
theorem dX48_line_98 : decode cX48_line 98 = .ok (.getfield 99, 3) := dk_180 0 99 (dk_at dksX48_line_4 4 rfl rfl)
theorem dX48_line_101 : decode cX48_line 101 = .ok (.iconst 0, 1) := dk_3 (dk_at dksX48_line_4 7 rfl rfl)
theorem dX48_line_102 : decode cX48_line 102 = .ok (.laload, 1) := dk_47 (dk_at dksX48_line_4 8 rfl rfl)
theorem dX48_line_103 : decode cX48_line 103 = .ok (.l2i, 1) := dk_136 (dk_at dksX48_line_4 9 rfl rfl)
theorem dX48_line_104 : decode cX48_line 104 = .ok (.aload_n 0, 1) := dk_42 (dk_at dksX48_line_4 10 rfl rfl)
theorem dX48_line_105 : decode cX48_line 105 = .ok (.getfield 99, 3) := dk_180 0 99 (dk_at dksX48_line_4 11 rfl rfl)
theorem dX48_line_108 : decode cX48_line 108 = .ok (.iconst 1, 1) := dk_4 (dk_at dksX48_line_4 14 rfl rfl)
theorem dX48_line_109 : decode cX48_line 109 = .ok (.laload, 1) := dk_47 (dk_at dksX48_line_4 15 rfl rfl)
theorem dX48_line_110 : decode cX48_line 110 = .ok (.l2i, 1) := dk_136 (dk_at dksX48_line_4 16 rfl rfl)
theorem dX48_line_111 : decode cX48_line 111 = .ok (.aload_n 0, 1) := dk_42 (dk_at dksX48_line_4 17 rfl rfl)
theorem dX48_line_112 : decode cX48_line 112 = .ok (.getfield 99, 3) := dk_180 0 99 (dk_at dksX48_line_4 18 rfl rfl)
theorem dX48_line_115 : decode cX48_line 115 = .ok (.iconst 2, 1) := dk_5 (dk_at dksX48_line_4 21 rfl rfl)
theorem dX48_line_116 : decode cX48_line 116 = .ok (.laload, 1) := dk_47 (dk_at dksX48_line_4 22 rfl rfl)
theorem dX48_line_117 : decode cX48_line 117 = .ok (.l2i, 1) := dk_136 (dk_at dksX48_line_4 23 rfl rfl)
theorem dX48_line_118 : decode cX48_line 118 = .ok (.invokevirtual 527, 3) := dk_182 2 15 (dk_at dksX48_line_5 0 rfl rfl)
theorem dX48_line_121 : decode cX48_line 121 = .ok (.invokestatic 328, 3) := dk_184 1 72 (dk_at dksX48_line_5 3 rfl rfl)
theorem dX48_line_124 : decode cX48_line 124 = .ok (.goto 4, 3) := dk_167 0 4 (dk_at dksX48_line_5 6 rfl rfl)
theorem dX48_line_127 : decode cX48_line 127 = .ok (.lconst 0, 1) := dk_9 (dk_at dksX48_line_5 9 rfl rfl)
theorem dX48_line_128 : decode cX48_line 128 = .ok (.lreturn, 1) := dk_173 (dk_at dksX48_line_5 10 rfl rfl)
theorem dX48_line_129 : decode cX48_line 129 = .ok (.aload_n 0, 1) := dk_42 (dk_at dksX48_line_5 11 rfl rfl)
theorem dX48_line_130 : decode cX48_line 130 = .ok (.ldc_w 492, 3) := dk_19 1 236 (dk_at dksX48_line_5 12 rfl rfl)
theorem dX48_line_133 : decode cX48_line 133 = .ok (.ldc_w 530, 3) := dk_19 2 18 (dk_at dksX48_line_5 15 rfl rfl)
theorem dX48_line_136 : decode cX48_line 136 = .ok (.invokevirtual 263, 3) := dk_182 1 7 (dk_at dksX48_line_5 18 rfl rfl)
theorem dX48_line_139 : decode cX48_line 139 = .ok (.ifCond .eq 58, 3) := dk_153 0 58 (dk_at dksX48_line_5 21 rfl rfl)
theorem dX48_line_142 : decode cX48_line 142 = .ok (.aload_n 0, 1) := dk_42 (dk_at dksX48_line_6 0 rfl rfl)
theorem dX48_line_143 : decode cX48_line 143 = .ok (.getfield 167, 3) := dk_180 0 167 (dk_at dksX48_line_6 1 rfl rfl)
theorem dX48_line_146 : decode cX48_line 146 = .ok (.ifCond .ge 49, 3) := dk_156 0 49 (dk_at dksX48_line_6 4 rfl rfl)
theorem dX48_line_149 : decode cX48_line 149 = .ok (.aload_n 0, 1) := dk_42 (dk_at dksX48_line_6 7 rfl rfl)
theorem dX48_line_150 : decode cX48_line 150 = .ok (.getfield 21, 3) := dk_180 0 21 (dk_at dksX48_line_6 8 rfl rfl)
theorem dX48_line_153 : decode cX48_line 153 = .ok (.aload_n 0, 1) := dk_42 (dk_at dksX48_line_6 11 rfl rfl)
theorem dX48_line_154 : decode cX48_line 154 = .ok (.getfield 99, 3) := dk_180 0 99 (dk_at dksX48_line_6 12 rfl rfl)
theorem dX48_line_157 : decode cX48_line 157 = .ok (.iconst 0, 1) := dk_3 (dk_at dksX48_line_6 15 rfl rfl)
theorem dX48_line_158 : decode cX48_line 158 = .ok (.laload, 1) := dk_47 (dk_at dksX48_line_6 16 rfl rfl)
theorem dX48_line_159 : decode cX48_line 159 = .ok (.l2i, 1) := dk_136 (dk_at dksX48_line_6 17 rfl rfl)
theorem dX48_line_160 : decode cX48_line 160 = .ok (.aload_n 0, 1) := dk_42 (dk_at dksX48_line_6 18 rfl rfl)
theorem dX48_line_161 : decode cX48_line 161 = .ok (.getfield 99, 3) := dk_180 0 99 (dk_at dksX48_line_6 19 rfl rfl)
theorem dX48_line_164 : decode cX48_line 164 = .ok (.iconst 1, 1) := dk_4 (dk_at dksX48_line_6 22 rfl rfl)
theorem dX48_line_165 : decode cX48_line 165 = .ok (.laload, 1) := dk_47 (dk_at dksX48_line_6 23 rfl rfl)
theorem dX48_line_166 : decode cX48_line 166 = .ok (.l2i, 1) := dk_136 (dk_at dksX48_line_7 0 rfl rfl)
theorem dX48_line_167 : decode cX48_line 167 = .ok (.aload_n 0, 1) := dk_42 (dk_at dksX48_line_7 1 rfl rfl)
theorem dX48_line_168 : decode cX48_line 168 = .ok (.getfield 99, 3) := dk_180 0 99 (dk_at dksX48_line_7 2 rfl rfl)
theorem dX48_line_171 : decode cX48_line 171 = .ok (.iconst 2, 1) := dk_5 (dk_at dksX48_line_7 5 rfl rfl)
theorem dX48_line_172 : decode cX48_line 172 = .ok (.laload, 1) := dk_47 (dk_at dksX48_line_7 6 rfl rfl)
theorem dX48_line_173 : decode cX48_line 173 = .ok (.l2i, 1) := dk_136 (dk_at dksX48_line_7 7 rfl rfl)
theorem dX48_line_174 : decode cX48_line 174 = .ok (.aload_n 0, 1) := dk_42 (dk_at dksX48_line_7 8 rfl rfl)
theorem dX48_line_175 : decode cX48_line 175 = .ok (.getfield 99, 3) := dk_180 0 99 (dk_at dksX48_line_7 9 rfl rfl)
theorem dX48_line_178 : decode cX48_line 178 = .ok (.iconst 3, 1) := dk_6 (dk_at dksX48_line_7 12 rfl rfl)
theorem dX48_line_179 : decode cX48_line 179 = .ok (.laload, 1) := dk_47 (dk_at dksX48_line_7 13 rfl rfl)
theorem dX48_line_180 : decode cX48_line 180 = .ok (.aload_n 0, 1) := dk_42 (dk_at dksX48_line_7 14 rfl rfl)
theorem dX48_line_181 : decode cX48_line 181 = .ok (.getfield 99, 3) := dk_180 0 99 (dk_at dksX48_line_7 15 rfl rfl)
theorem dX48_line_184 : decode cX48_line 184 = .ok (.iconst 4, 1) := dk_7 (dk_at dksX48_line_7 18 rfl rfl)
theorem dX48_line_185 : decode cX48_line 185 = .ok (.laload, 1) := dk_47 (dk_at dksX48_line_7 19 rfl rfl)
theorem dX48_line_186 : decode cX48_line 186 = .ok (.invokevirtual 532, 3) := dk_182 2 20 (dk_at dksX48_line_7 20 rfl rfl)
theorem dX48_line_189 : decode cX48_line 189 = .ok (.invokestatic 328, 3) := dk_184 1 72 (dk_at dksX48_line_8 0 rfl rfl)
theorem dX48_line_192 : decode cX48_line 192 = .ok (.goto 4, 3) := dk_167 0 4 (dk_at dksX48_line_8 3 rfl rfl)
theorem dX48_line_195 : decode cX48_line 195 = .ok (.lconst 0, 1) := dk_9 (dk_at dksX48_line_8 6 rfl rfl)
theorem dX48_line_196 : decode cX48_line 196 = .ok (.lreturn, 1) := dk_173 (dk_at dksX48_line_8 7 rfl rfl)
theorem dX48_line_197 : decode cX48_line 197 = .ok (.aload_n 0, 1) := dk_42 (dk_at dksX48_line_8 8 rfl rfl)
theorem dX48_line_198 : decode cX48_line 198 = .ok (.ldc_w 535, 3) := dk_19 2 23 (dk_at dksX48_line_8 9 rfl rfl)
theorem dX48_line_201 : decode cX48_line 201 = .ok (.ldc_w 530, 3) := dk_19 2 18 (dk_at dksX48_line_8 12 rfl rfl)
theorem dX48_line_204 : decode cX48_line 204 = .ok (.invokevirtual 263, 3) := dk_182 1 7 (dk_at dksX48_line_8 15 rfl rfl)
theorem dX48_line_207 : decode cX48_line 207 = .ok (.ifCond .eq 58, 3) := dk_153 0 58 (dk_at dksX48_line_8 18 rfl rfl)
theorem dX48_line_210 : decode cX48_line 210 = .ok (.aload_n 0, 1) := dk_42 (dk_at dksX48_line_8 21 rfl rfl)
theorem dX48_line_211 : decode cX48_line 211 = .ok (.getfield 167, 3) := dk_180 0 167 (dk_at dksX48_line_9 0 rfl rfl)
theorem dX48_line_214 : decode cX48_line 214 = .ok (.ifCond .ge 49, 3) := dk_156 0 49 (dk_at dksX48_line_9 3 rfl rfl)
theorem dX48_line_217 : decode cX48_line 217 = .ok (.aload_n 0, 1) := dk_42 (dk_at dksX48_line_9 6 rfl rfl)
theorem dX48_line_218 : decode cX48_line 218 = .ok (.getfield 21, 3) := dk_180 0 21 (dk_at dksX48_line_9 7 rfl rfl)
theorem dX48_line_221 : decode cX48_line 221 = .ok (.aload_n 0, 1) := dk_42 (dk_at dksX48_line_9 10 rfl rfl)
theorem dX48_line_222 : decode cX48_line 222 = .ok (.getfield 99, 3) := dk_180 0 99 (dk_at dksX48_line_9 11 rfl rfl)
theorem dX48_line_225 : decode cX48_line 225 = .ok (.iconst 0, 1) := dk_3 (dk_at dksX48_line_9 14 rfl rfl)
theorem dX48_line_226 : decode cX48_line 226 = .ok (.laload, 1) := dk_47 (dk_at dksX48_line_9 15 rfl rfl)
theorem dX48_line_227 : decode cX48_line 227 = .ok (.l2i, 1) := dk_136 (dk_at dksX48_line_9 16 rfl rfl)
theorem dX48_line_228 : decode cX48_line 228 = .ok (.aload_n 0, 1) := dk_42 (dk_at dksX48_line_9 17 rfl rfl)
theorem dX48_line_229 : decode cX48_line 229 = .ok (.getfield 99, 3) := dk_180 0 99 (dk_at dksX48_line_9 18 rfl rfl)
theorem dX48_line_232 : decode cX48_line 232 = .ok (.iconst 1, 1) := dk_4 (dk_at dksX48_line_9 21 rfl rfl)
theorem dX48_line_233 : decode cX48_line 233 = .ok (.laload, 1) := dk_47 (dk_at dksX48_line_9 22 rfl rfl)
theorem dX48_line_234 : decode cX48_line 234 = .ok (.l2i, 1) := dk_136 (dk_at dksX48_line_9 23 rfl rfl)
theorem dX48_line_235 : decode cX48_line 235 = .ok (.aload_n 0, 1) := dk_42 (dk_at dksX48_line_10 0 rfl rfl)
theorem dX48_line_236 : decode cX48_line 236 = .ok (.getfield 99, 3) := dk_180 0 99 (dk_at dksX48_line_10 1 rfl rfl)
theorem dX48_line_239 : decode cX48_line 239 = .ok (.iconst 2, 1) := dk_5 (dk_at dksX48_line_10 4 rfl rfl)
theorem dX48_line_240 : decode cX48_line 240 = .ok (.laload, 1) := dk_47 (dk_at dksX48_line_10 5 rfl rfl)
theorem dX48_line_241 : decode cX48_line 241 = .ok (.l2i, 1) := dk_136 (dk_at dksX48_line_10 6 rfl rfl)
theorem dX48_line_242 : decode cX48_line 242 = .ok (.aload_n 0, 1) := dk_42 (dk_at dksX48_line_10 7 rfl rfl)
theorem dX48_line_243 : decode cX48_line 243 = .ok (.getfield 99, 3) := dk_180 0 99 (dk_at dksX48_line_10 8 rfl rfl)
theorem dX48_line_246 : decode cX48_line 246 = .ok (.iconst 3, 1) := dk_6 (dk_at dksX48_line_10 11 rfl rfl)
theorem dX48_line_247 : decode cX48_line 247 = .ok (.laload, 1) := dk_47 (dk_at dksX48_line_10 12 rfl rfl)
theorem dX48_line_248 : decode cX48_line 248 = .ok (.aload_n 0, 1) := dk_42 (dk_at dksX48_line_10 13 rfl rfl)
theorem dX48_line_249 : decode cX48_line 249 = .ok (.getfield 99, 3) := dk_180 0 99 (dk_at dksX48_line_10 14 rfl rfl)
theorem dX48_line_252 : decode cX48_line 252 = .ok (.iconst 4, 1) := dk_7 (dk_at dksX48_line_10 17 rfl rfl)
theorem dX48_line_253 : decode cX48_line 253 = .ok (.laload, 1) := dk_47 (dk_at dksX48_line_10 18 rfl rfl)
theorem dX48_line_254 : decode cX48_line 254 = .ok (.invokevirtual 537, 3) := dk_182 2 25 (dk_at dksX48_line_10 19 rfl rfl)
theorem dX48_line_257 : decode cX48_line 257 = .ok (.invokestatic 328, 3) := dk_184 1 72 (dk_at dksX48_line_11 0 rfl rfl)
theorem dX48_line_260 : decode cX48_line 260 = .ok (.goto 4, 3) := dk_167 0 4 (dk_at dksX48_line_11 3 rfl rfl)
theorem dX48_line_263 : decode cX48_line 263 = .ok (.lconst 0, 1) := dk_9 (dk_at dksX48_line_11 6 rfl rfl)
theorem dX48_line_264 : decode cX48_line 264 = .ok (.lreturn, 1) := dk_173 (dk_at dksX48_line_11 7 rfl rfl)
theorem dX48_line_265 : decode cX48_line 265 = .ok (.aload_n 0, 1) := dk_42 (dk_at dksX48_line_11 8 rfl rfl)
theorem dX48_line_266 : decode cX48_line 266 = .ok (.ldc_w 539, 3) := dk_19 2 27 (dk_at dksX48_line_11 9 rfl rfl)
theorem dX48_line_269 : decode cX48_line 269 = .ok (.ldc_w 451, 3) := dk_19 1 195 (dk_at dksX48_line_11 12 rfl rfl)
theorem dX48_line_272 : decode cX48_line 272 = .ok (.invokevirtual 263, 3) := dk_182 1 7 (dk_at dksX48_line_11 15 rfl rfl)
theorem dX48_line_275 : decode cX48_line 275 = .ok (.ifCond .eq 45, 3) := dk_153 0 45 (dk_at dksX48_line_11 18 rfl rfl)
theorem dX48_line_278 : decode cX48_line 278 = .ok (.aload_n 0, 1) := dk_42 (dk_at dksX48_line_11 21 rfl rfl)
theorem dX48_line_279 : decode cX48_line 279 = .ok (.getfield 167, 3) := dk_180 0 167 (dk_at dksX48_line_12 0 rfl rfl)
theorem dX48_line_282 : decode cX48_line 282 = .ok (.ifCond .ge 36, 3) := dk_156 0 36 (dk_at dksX48_line_12 3 rfl rfl)
theorem dX48_line_285 : decode cX48_line 285 = .ok (.aload_n 0, 1) := dk_42 (dk_at dksX48_line_12 6 rfl rfl)
theorem dX48_line_286 : decode cX48_line 286 = .ok (.getfield 21, 3) := dk_180 0 21 (dk_at dksX48_line_12 7 rfl rfl)
theorem dX48_line_289 : decode cX48_line 289 = .ok (.aload_n 0, 1) := dk_42 (dk_at dksX48_line_12 10 rfl rfl)
theorem dX48_line_290 : decode cX48_line 290 = .ok (.getfield 99, 3) := dk_180 0 99 (dk_at dksX48_line_12 11 rfl rfl)
theorem dX48_line_293 : decode cX48_line 293 = .ok (.iconst 0, 1) := dk_3 (dk_at dksX48_line_12 14 rfl rfl)
theorem dX48_line_294 : decode cX48_line 294 = .ok (.laload, 1) := dk_47 (dk_at dksX48_line_12 15 rfl rfl)
theorem dX48_line_295 : decode cX48_line 295 = .ok (.l2i, 1) := dk_136 (dk_at dksX48_line_12 16 rfl rfl)
theorem dX48_line_296 : decode cX48_line 296 = .ok (.aload_n 0, 1) := dk_42 (dk_at dksX48_line_12 17 rfl rfl)
theorem dX48_line_297 : decode cX48_line 297 = .ok (.getfield 99, 3) := dk_180 0 99 (dk_at dksX48_line_12 18 rfl rfl)
theorem dX48_line_300 : decode cX48_line 300 = .ok (.iconst 1, 1) := dk_4 (dk_at dksX48_line_12 21 rfl rfl)
theorem dX48_line_301 : decode cX48_line 301 = .ok (.laload, 1) := dk_47 (dk_at dksX48_line_12 22 rfl rfl)
theorem dX48_line_302 : decode cX48_line 302 = .ok (.l2i, 1) := dk_136 (dk_at dksX48_line_12 23 rfl rfl)
theorem dX48_line_303 : decode cX48_line 303 = .ok (.aload_n 0, 1) := dk_42 (dk_at dksX48_line_13 0 rfl rfl)
theorem dX48_line_304 : decode cX48_line 304 = .ok (.getfield 99, 3) := dk_180 0 99 (dk_at dksX48_line_13 1 rfl rfl)
theorem dX48_line_307 : decode cX48_line 307 = .ok (.iconst 2, 1) := dk_5 (dk_at dksX48_line_13 4 rfl rfl)
theorem dX48_line_308 : decode cX48_line 308 = .ok (.laload, 1) := dk_47 (dk_at dksX48_line_13 5 rfl rfl)
theorem dX48_line_309 : decode cX48_line 309 = .ok (.invokevirtual 353, 3) := dk_182 1 97 (dk_at dksX48_line_13 6 rfl rfl)
theorem dX48_line_312 : decode cX48_line 312 = .ok (.invokestatic 328, 3) := dk_184 1 72 (dk_at dksX48_line_13 9 rfl rfl)
theorem dX48_line_315 : decode cX48_line 315 = .ok (.goto 4, 3) := dk_167 0 4 (dk_at dksX48_line_13 12 rfl rfl)
theorem dX48_line_318 : decode cX48_line 318 = .ok (.lconst 0, 1) := dk_9 (dk_at dksX48_line_13 15 rfl rfl)
theorem dX48_line_319 : decode cX48_line 319 = .ok (.lreturn, 1) := dk_173 (dk_at dksX48_line_13 16 rfl rfl)
theorem dX48_line_320 : decode cX48_line 320 = .ok (.aload_n 0, 1) := dk_42 (dk_at dksX48_line_13 17 rfl rfl)
theorem dX48_line_321 : decode cX48_line 321 = .ok (.ldc_w 540, 3) := dk_19 2 28 (dk_at dksX48_line_13 18 rfl rfl)
theorem dX48_line_324 : decode cX48_line 324 = .ok (.ldc_w 272, 3) := dk_19 1 16 (dk_at dksX48_line_13 21 rfl rfl)
theorem dX48_line_327 : decode cX48_line 327 = .ok (.invokevirtual 263, 3) := dk_182 1 7 (dk_at dksX48_line_14 0 rfl rfl)
theorem dX48_line_330 : decode cX48_line 330 = .ok (.ifCond .eq 23, 3) := dk_153 0 23 (dk_at dksX48_line_14 3 rfl rfl)
theorem dX48_line_333 : decode cX48_line 333 = .ok (.aload_n 0, 1) := dk_42 (dk_at dksX48_line_14 6 rfl rfl)
theorem dX48_line_334 : decode cX48_line 334 = .ok (.getfield 167, 3) := dk_180 0 167 (dk_at dksX48_line_14 7 rfl rfl)
theorem dX48_line_337 : decode cX48_line 337 = .ok (.ifCond .ge 14, 3) := dk_156 0 14 (dk_at dksX48_line_14 10 rfl rfl)
theorem dX48_line_340 : decode cX48_line 340 = .ok (.aload_n 0, 1) := dk_42 (dk_at dksX48_line_14 13 rfl rfl)
theorem dX48_line_341 : decode cX48_line 341 = .ok (.getfield 21, 3) := dk_180 0 21 (dk_at dksX48_line_14 14 rfl rfl)
theorem dX48_line_344 : decode cX48_line 344 = .ok (.invokevirtual 357, 3) := dk_182 1 101 (dk_at dksX48_line_14 17 rfl rfl)
theorem dX48_line_347 : decode cX48_line 347 = .ok (.i2l, 1) := dk_133 (dk_at dksX48_line_14 20 rfl rfl)
theorem dX48_line_348 : decode cX48_line 348 = .ok (.goto 4, 3) := dk_167 0 4 (dk_at dksX48_line_14 21 rfl rfl)
theorem dX48_line_351 : decode cX48_line 351 = .ok (.lconst 0, 1) := dk_9 (dk_at dksX48_line_15 0 rfl rfl)
theorem dX48_line_352 : decode cX48_line 352 = .ok (.lreturn, 1) := dk_173 (dk_at dksX48_line_15 1 rfl rfl)
theorem dX48_line_353 : decode cX48_line 353 = .ok (.aload_n 0, 1) := dk_42 (dk_at dksX48_line_15 2 rfl rfl)
theorem dX48_line_354 : decode cX48_line 354 = .ok (.ldc_w 541, 3) := dk_19 2 29 (dk_at dksX48_line_15 3 rfl rfl)
theorem dX48_line_357 : decode cX48_line 357 = .ok (.ldc_w 498, 3) := dk_19 1 242 (dk_at dksX48_line_15 6 rfl rfl)
theorem dX48_line_360 : decode cX48_line 360 = .ok (.invokevirtual 263, 3) := dk_182 1 7 (dk_at dksX48_line_15 9 rfl rfl)
theorem dX48_line_363 : decode cX48_line 363 = .ok (.ifCond .eq 43, 3) := dk_153 0 43 (dk_at dksX48_line_15 12 rfl rfl)
theorem dX48_line_366 : decode cX48_line 366 = .ok (.aload_n 0, 1) := dk_42 (dk_at dksX48_line_15 15 rfl rfl)
theorem dX48_line_367 : decode cX48_line 367 = .ok (.getfield 167, 3) := dk_180 0 167 (dk_at dksX48_line_15 16 rfl rfl)
theorem dX48_line_370 : decode cX48_line 370 = .ok (.ifCond .ge 34, 3) := dk_156 0 34 (dk_at dksX48_line_15 19 rfl rfl)
theorem dX48_line_373 : decode cX48_line 373 = .ok (.aload_n 0, 1) := dk_42 (dk_at dksX48_line_15 22 rfl rfl)
theorem dX48_line_374 : decode cX48_line 374 = .ok (.getfield 21, 3) := dk_180 0 21 (dk_at dksX48_line_16 0 rfl rfl)
theorem dX48_line_377 : decode cX48_line 377 = .ok (.aload_n 0, 1) := dk_42 (dk_at dksX48_line_16 3 rfl rfl)
theorem dX48_line_378 : decode cX48_line 378 = .ok (.getfield 99, 3) := dk_180 0 99 (dk_at dksX48_line_16 4 rfl rfl)
theorem dX48_line_381 : decode cX48_line 381 = .ok (.iconst 0, 1) := dk_3 (dk_at dksX48_line_16 7 rfl rfl)
theorem dX48_line_382 : decode cX48_line 382 = .ok (.laload, 1) := dk_47 (dk_at dksX48_line_16 8 rfl rfl)
theorem dX48_line_383 : decode cX48_line 383 = .ok (.l2i, 1) := dk_136 (dk_at dksX48_line_16 9 rfl rfl)
theorem dX48_line_384 : decode cX48_line 384 = .ok (.aload_n 0, 1) := dk_42 (dk_at dksX48_line_16 10 rfl rfl)
theorem dX48_line_385 : decode cX48_line 385 = .ok (.getfield 99, 3) := dk_180 0 99 (dk_at dksX48_line_16 11 rfl rfl)
theorem dX48_line_388 : decode cX48_line 388 = .ok (.iconst 1, 1) := dk_4 (dk_at dksX48_line_16 14 rfl rfl)
theorem dX48_line_389 : decode cX48_line 389 = .ok (.laload, 1) := dk_47 (dk_at dksX48_line_16 15 rfl rfl)
theorem dX48_line_390 : decode cX48_line 390 = .ok (.l2i, 1) := dk_136 (dk_at dksX48_line_16 16 rfl rfl)
theorem dX48_line_391 : decode cX48_line 391 = .ok (.aload_n 0, 1) := dk_42 (dk_at dksX48_line_16 17 rfl rfl)
theorem dX48_line_392 : decode cX48_line 392 = .ok (.getfield 99, 3) := dk_180 0 99 (dk_at dksX48_line_16 18 rfl rfl)
theorem dX48_line_395 : decode cX48_line 395 = .ok (.iconst 2, 1) := dk_5 (dk_at dksX48_line_16 21 rfl rfl)
theorem dX48_line_396 : decode cX48_line 396 = .ok (.laload, 1) := dk_47 (dk_at dksX48_line_16 22 rfl rfl)
theorem dX48_line_397 : decode cX48_line 397 = .ok (.l2i, 1) := dk_136 (dk_at dksX48_line_16 23 rfl rfl)
theorem dX48_line_398 : decode cX48_line 398 = .ok (.invokevirtual 360, 3) := dk_182 1 104 (dk_at dksX48_line_17 0 rfl rfl)
theorem dX48_line_401 : decode cX48_line 401 = .ok (.goto 4, 3) := dk_167 0 4 (dk_at dksX48_line_17 3 rfl rfl)
theorem dX48_line_404 : decode cX48_line 404 = .ok (.lconst 0, 1) := dk_9 (dk_at dksX48_line_17 6 rfl rfl)
theorem dX48_line_405 : decode cX48_line 405 = .ok (.lreturn, 1) := dk_173 (dk_at dksX48_line_17 7 rfl rfl)
theorem dX48_line_406 : decode cX48_line 406 = .ok (.aload_n 0, 1) := dk_42 (dk_at dksX48_line_17 8 rfl rfl)
theorem dX48_line_407 : decode cX48_line 407 = .ok (.ldc_w 542, 3) := dk_19 2 30 (dk_at dksX48_line_17 9 rfl rfl)
theorem dX48_line_410 : decode cX48_line 410 = .ok (.ldc_w 292, 3) := dk_19 1 36 (dk_at dksX48_line_17 12 rfl rfl)
theorem dX48_line_413 : decode cX48_line 413 = .ok (.invokevirtual 263, 3) := dk_182 1 7 (dk_at dksX48_line_17 15 rfl rfl)
theorem dX48_line_416 : decode cX48_line 416 = .ok (.ifCond .eq 36, 3) := dk_153 0 36 (dk_at dksX48_line_17 18 rfl rfl)
theorem dX48_line_419 : decode cX48_line 419 = .ok (.aload_n 0, 1) := dk_42 (dk_at dksX48_line_17 21 rfl rfl)
theorem dX48_line_420 : decode cX48_line 420 = .ok (.getfield 167, 3) := dk_180 0 167 (dk_at dksX48_line_18 0 rfl rfl)
theorem dX48_line_423 : decode cX48_line 423 = .ok (.ifCond .ge 27, 3) := dk_156 0 27 (dk_at dksX48_line_18 3 rfl rfl)
theorem dX48_line_426 : decode cX48_line 426 = .ok (.aload_n 0, 1) := dk_42 (dk_at dksX48_line_18 6 rfl rfl)
theorem dX48_line_427 : decode cX48_line 427 = .ok (.getfield 21, 3) := dk_180 0 21 (dk_at dksX48_line_18 7 rfl rfl)
theorem dX48_line_430 : decode cX48_line 430 = .ok (.aload_n 0, 1) := dk_42 (dk_at dksX48_line_18 10 rfl rfl)
theorem dX48_line_431 : decode cX48_line 431 = .ok (.getfield 99, 3) := dk_180 0 99 (dk_at dksX48_line_18 11 rfl rfl)
theorem dX48_line_434 : decode cX48_line 434 = .ok (.iconst 0, 1) := dk_3 (dk_at dksX48_line_18 14 rfl rfl)
theorem dX48_line_435 : decode cX48_line 435 = .ok (.laload, 1) := dk_47 (dk_at dksX48_line_18 15 rfl rfl)
theorem dX48_line_436 : decode cX48_line 436 = .ok (.l2i, 1) := dk_136 (dk_at dksX48_line_18 16 rfl rfl)
theorem dX48_line_437 : decode cX48_line 437 = .ok (.aload_n 0, 1) := dk_42 (dk_at dksX48_line_18 17 rfl rfl)
theorem dX48_line_438 : decode cX48_line 438 = .ok (.getfield 99, 3) := dk_180 0 99 (dk_at dksX48_line_18 18 rfl rfl)
theorem dX48_line_441 : decode cX48_line 441 = .ok (.iconst 1, 1) := dk_4 (dk_at dksX48_line_18 21 rfl rfl)
theorem dX48_line_442 : decode cX48_line 442 = .ok (.laload, 1) := dk_47 (dk_at dksX48_line_18 22 rfl rfl)
theorem dX48_line_443 : decode cX48_line 443 = .ok (.l2i, 1) := dk_136 (dk_at dksX48_line_18 23 rfl rfl)
theorem dX48_line_444 : decode cX48_line 444 = .ok (.invokevirtual 543, 3) := dk_182 2 31 (dk_at dksX48_line_19 0 rfl rfl)
theorem dX48_line_447 : decode cX48_line 447 = .ok (.goto 4, 3) := dk_167 0 4 (dk_at dksX48_line_19 3 rfl rfl)
theorem dX48_line_450 : decode cX48_line 450 = .ok (.lconst 0, 1) := dk_9 (dk_at dksX48_line_19 6 rfl rfl)
theorem dX48_line_451 : decode cX48_line 451 = .ok (.lreturn, 1) := dk_173 (dk_at dksX48_line_19 7 rfl rfl)
theorem dX48_line_452 : decode cX48_line 452 = .ok (.aload_n 0, 1) := dk_42 (dk_at dksX48_line_19 8 rfl rfl)
theorem dX48_line_453 : decode cX48_line 453 = .ok (.ldc_w 545, 3) := dk_19 2 33 (dk_at dksX48_line_19 9 rfl rfl)
theorem dX48_line_456 : decode cX48_line 456 = .ok (.ldc_w 547, 3) := dk_19 2 35 (dk_at dksX48_line_19 12 rfl rfl)
theorem dX48_line_459 : decode cX48_line 459 = .ok (.invokevirtual 263, 3) := dk_182 1 7 (dk_at dksX48_line_19 15 rfl rfl)
theorem dX48_line_462 : decode cX48_line 462 = .ok (.ifCond .eq 44, 3) := dk_153 0 44 (dk_at dksX48_line_19 18 rfl rfl)
theorem dX48_line_465 : decode cX48_line 465 = .ok (.aload_n 0, 1) := dk_42 (dk_at dksX48_line_19 21 rfl rfl)
theorem dX48_line_466 : decode cX48_line 466 = .ok (.getfield 167, 3) := dk_180 0 167 (dk_at dksX48_line_20 0 rfl rfl)
theorem dX48_line_469 : decode cX48_line 469 = .ok (.ifCond .ge 35, 3) := dk_156 0 35 (dk_at dksX48_line_20 3 rfl rfl)
theorem dX48_line_472 : decode cX48_line 472 = .ok (.aload_n 0, 1) := dk_42 (dk_at dksX48_line_20 6 rfl rfl)
theorem dX48_line_473 : decode cX48_line 473 = .ok (.getfield 21, 3) := dk_180 0 21 (dk_at dksX48_line_20 7 rfl rfl)
theorem dX48_line_476 : decode cX48_line 476 = .ok (.aload_n 0, 1) := dk_42 (dk_at dksX48_line_20 10 rfl rfl)
theorem dX48_line_477 : decode cX48_line 477 = .ok (.getfield 99, 3) := dk_180 0 99 (dk_at dksX48_line_20 11 rfl rfl)
theorem dX48_line_480 : decode cX48_line 480 = .ok (.iconst 0, 1) := dk_3 (dk_at dksX48_line_20 14 rfl rfl)
theorem dX48_line_481 : decode cX48_line 481 = .ok (.laload, 1) := dk_47 (dk_at dksX48_line_20 15 rfl rfl)
theorem dX48_line_482 : decode cX48_line 482 = .ok (.l2i, 1) := dk_136 (dk_at dksX48_line_20 16 rfl rfl)
theorem dX48_line_483 : decode cX48_line 483 = .ok (.aload_n 0, 1) := dk_42 (dk_at dksX48_line_20 17 rfl rfl)
theorem dX48_line_484 : decode cX48_line 484 = .ok (.getfield 99, 3) := dk_180 0 99 (dk_at dksX48_line_20 18 rfl rfl)
theorem dX48_line_487 : decode cX48_line 487 = .ok (.iconst 1, 1) := dk_4 (dk_at dksX48_line_20 21 rfl rfl)
theorem dX48_line_488 : decode cX48_line 488 = .ok (.laload, 1) := dk_47 (dk_at dksX48_line_20 22 rfl rfl)
theorem dX48_line_489 : decode cX48_line 489 = .ok (.aload_n 0, 1) := dk_42 (dk_at dksX48_line_20 23 rfl rfl)
theorem dX48_line_490 : decode cX48_line 490 = .ok (.getfield 99, 3) := dk_180 0 99 (dk_at dksX48_line_21 0 rfl rfl)
theorem dX48_line_493 : decode cX48_line 493 = .ok (.iconst 2, 1) := dk_5 (dk_at dksX48_line_21 3 rfl rfl)
theorem dX48_line_494 : decode cX48_line 494 = .ok (.laload, 1) := dk_47 (dk_at dksX48_line_21 4 rfl rfl)
theorem dX48_line_495 : decode cX48_line 495 = .ok (.invokevirtual 549, 3) := dk_182 2 37 (dk_at dksX48_line_21 5 rfl rfl)
theorem dX48_line_498 : decode cX48_line 498 = .ok (.invokestatic 328, 3) := dk_184 1 72 (dk_at dksX48_line_21 8 rfl rfl)
theorem dX48_line_501 : decode cX48_line 501 = .ok (.goto 4, 3) := dk_167 0 4 (dk_at dksX48_line_21 11 rfl rfl)
theorem dX48_line_504 : decode cX48_line 504 = .ok (.lconst 0, 1) := dk_9 (dk_at dksX48_line_21 14 rfl rfl)
theorem dX48_line_505 : decode cX48_line 505 = .ok (.lreturn, 1) := dk_173 (dk_at dksX48_line_21 15 rfl rfl)
theorem dX48_line_506 : decode cX48_line 506 = .ok (.aload_n 0, 1) := dk_42 (dk_at dksX48_line_21 16 rfl rfl)
theorem dX48_line_507 : decode cX48_line 507 = .ok (.ldc_w 551, 3) := dk_19 2 39 (dk_at dksX48_line_21 17 rfl rfl)
theorem dX48_line_510 : decode cX48_line 510 = .ok (.ldc_w 278, 3) := dk_19 1 22 (dk_at dksX48_line_21 20 rfl rfl)
theorem dX48_line_513 : decode cX48_line 513 = .ok (.invokevirtual 263, 3) := dk_182 1 7 (dk_at dksX48_line_22 0 rfl rfl)
theorem dX48_line_516 : decode cX48_line 516 = .ok (.ifCond .eq 30, 3) := dk_153 0 30 (dk_at dksX48_line_22 3 rfl rfl)
theorem dX48_line_519 : decode cX48_line 519 = .ok (.aload_n 0, 1) := dk_42 (dk_at dksX48_line_22 6 rfl rfl)
theorem dX48_line_520 : decode cX48_line 520 = .ok (.getfield 167, 3) := dk_180 0 167 (dk_at dksX48_line_22 7 rfl rfl)
theorem dX48_line_523 : decode cX48_line 523 = .ok (.ifCond .ge 21, 3) := dk_156 0 21 (dk_at dksX48_line_22 10 rfl rfl)
theorem dX48_line_526 : decode cX48_line 526 = .ok (.aload_n 0, 1) := dk_42 (dk_at dksX48_line_22 13 rfl rfl)
theorem dX48_line_527 : decode cX48_line 527 = .ok (.getfield 21, 3) := dk_180 0 21 (dk_at dksX48_line_22 14 rfl rfl)
theorem dX48_line_530 : decode cX48_line 530 = .ok (.aload_n 0, 1) := dk_42 (dk_at dksX48_line_22 17 rfl rfl)
theorem dX48_line_531 : decode cX48_line 531 = .ok (.getfield 99, 3) := dk_180 0 99 (dk_at dksX48_line_22 18 rfl rfl)
theorem dX48_line_534 : decode cX48_line 534 = .ok (.iconst 0, 1) := dk_3 (dk_at dksX48_line_22 21 rfl rfl)
theorem dX48_line_535 : decode cX48_line 535 = .ok (.laload, 1) := dk_47 (dk_at dksX48_line_22 22 rfl rfl)
theorem dX48_line_536 : decode cX48_line 536 = .ok (.l2i, 1) := dk_136 (dk_at dksX48_line_22 23 rfl rfl)
theorem dX48_line_537 : decode cX48_line 537 = .ok (.invokevirtual 553, 3) := dk_182 2 41 (dk_at dksX48_line_23 0 rfl rfl)
theorem dX48_line_540 : decode cX48_line 540 = .ok (.i2l, 1) := dk_133 (dk_at dksX48_line_23 3 rfl rfl)
theorem dX48_line_541 : decode cX48_line 541 = .ok (.goto 4, 3) := dk_167 0 4 (dk_at dksX48_line_23 4 rfl rfl)
theorem dX48_line_544 : decode cX48_line 544 = .ok (.lconst 0, 1) := dk_9 (dk_at dksX48_line_23 7 rfl rfl)
theorem dX48_line_545 : decode cX48_line 545 = .ok (.lreturn, 1) := dk_173 (dk_at dksX48_line_23 8 rfl rfl)
theorem dX48_line_546 : decode cX48_line 546 = .ok (.aload_n 0, 1) := dk_42 (dk_at dksX48_line_23 9 rfl rfl)
theorem dX48_line_547 : decode cX48_line 547 = .ok (.ldc_w 555, 3) := dk_19 2 43 (dk_at dksX48_line_23 10 rfl rfl)
theorem dX48_line_550 : decode cX48_line 550 = .ok (.ldc_w 557, 3) := dk_19 2 45 (dk_at dksX48_line_23 13 rfl rfl)
theorem dX48_line_553 : decode cX48_line 553 = .ok (.invokevirtual 263, 3) := dk_182 1 7 (dk_at dksX48_line_23 16 rfl rfl)
theorem dX48_line_556 : decode cX48_line 556 = .ok (.ifCond .eq 57, 3) := dk_153 0 57 (dk_at dksX48_line_23 19 rfl rfl)
theorem dX48_line_559 : decode cX48_line 559 = .ok (.aload_n 0, 1) := dk_42 (dk_at dksX48_line_23 22 rfl rfl)
theorem dX48_line_560 : decode cX48_line 560 = .ok (.getfield 167, 3) := dk_180 0 167 (dk_at dksX48_line_24 0 rfl rfl)
theorem dX48_line_563 : decode cX48_line 563 = .ok (.ifCond .ge 48, 3) := dk_156 0 48 (dk_at dksX48_line_24 3 rfl rfl)
theorem dX48_line_566 : decode cX48_line 566 = .ok (.aload_n 0, 1) := dk_42 (dk_at dksX48_line_24 6 rfl rfl)
theorem dX48_line_567 : decode cX48_line 567 = .ok (.getfield 21, 3) := dk_180 0 21 (dk_at dksX48_line_24 7 rfl rfl)
theorem dX48_line_570 : decode cX48_line 570 = .ok (.aload_n 0, 1) := dk_42 (dk_at dksX48_line_24 10 rfl rfl)
theorem dX48_line_571 : decode cX48_line 571 = .ok (.getfield 99, 3) := dk_180 0 99 (dk_at dksX48_line_24 11 rfl rfl)
theorem dX48_line_574 : decode cX48_line 574 = .ok (.iconst 0, 1) := dk_3 (dk_at dksX48_line_24 14 rfl rfl)
theorem dX48_line_575 : decode cX48_line 575 = .ok (.laload, 1) := dk_47 (dk_at dksX48_line_24 15 rfl rfl)
theorem dX48_line_576 : decode cX48_line 576 = .ok (.l2i, 1) := dk_136 (dk_at dksX48_line_24 16 rfl rfl)
theorem dX48_line_577 : decode cX48_line 577 = .ok (.aload_n 0, 1) := dk_42 (dk_at dksX48_line_24 17 rfl rfl)
theorem dX48_line_578 : decode cX48_line 578 = .ok (.getfield 99, 3) := dk_180 0 99 (dk_at dksX48_line_24 18 rfl rfl)
theorem dX48_line_581 : decode cX48_line 581 = .ok (.iconst 1, 1) := dk_4 (dk_at dksX48_line_24 21 rfl rfl)
theorem dX48_line_582 : decode cX48_line 582 = .ok (.laload, 1) := dk_47 (dk_at dksX48_line_24 22 rfl rfl)
theorem dX48_line_583 : decode cX48_line 583 = .ok (.l2i, 1) := dk_136 (dk_at dksX48_line_24 23 rfl rfl)
theorem dX48_line_584 : decode cX48_line 584 = .ok (.aload_n 0, 1) := dk_42 (dk_at dksX48_line_25 0 rfl rfl)
theorem dX48_line_585 : decode cX48_line 585 = .ok (.getfield 99, 3) := dk_180 0 99 (dk_at dksX48_line_25 1 rfl rfl)
theorem dX48_line_588 : decode cX48_line 588 = .ok (.iconst 2, 1) := dk_5 (dk_at dksX48_line_25 4 rfl rfl)
theorem dX48_line_589 : decode cX48_line 589 = .ok (.laload, 1) := dk_47 (dk_at dksX48_line_25 5 rfl rfl)
theorem dX48_line_590 : decode cX48_line 590 = .ok (.l2i, 1) := dk_136 (dk_at dksX48_line_25 6 rfl rfl)
theorem dX48_line_591 : decode cX48_line 591 = .ok (.aload_n 0, 1) := dk_42 (dk_at dksX48_line_25 7 rfl rfl)
theorem dX48_line_592 : decode cX48_line 592 = .ok (.getfield 99, 3) := dk_180 0 99 (dk_at dksX48_line_25 8 rfl rfl)
theorem dX48_line_595 : decode cX48_line 595 = .ok (.iconst 3, 1) := dk_6 (dk_at dksX48_line_25 11 rfl rfl)
theorem dX48_line_596 : decode cX48_line 596 = .ok (.laload, 1) := dk_47 (dk_at dksX48_line_25 12 rfl rfl)
theorem dX48_line_597 : decode cX48_line 597 = .ok (.l2i, 1) := dk_136 (dk_at dksX48_line_25 13 rfl rfl)
theorem dX48_line_598 : decode cX48_line 598 = .ok (.aload_n 0, 1) := dk_42 (dk_at dksX48_line_25 14 rfl rfl)
theorem dX48_line_599 : decode cX48_line 599 = .ok (.getfield 99, 3) := dk_180 0 99 (dk_at dksX48_line_25 15 rfl rfl)
theorem dX48_line_602 : decode cX48_line 602 = .ok (.iconst 4, 1) := dk_7 (dk_at dksX48_line_25 18 rfl rfl)
theorem dX48_line_603 : decode cX48_line 603 = .ok (.laload, 1) := dk_47 (dk_at dksX48_line_25 19 rfl rfl)
theorem dX48_line_604 : decode cX48_line 604 = .ok (.l2i, 1) := dk_136 (dk_at dksX48_line_25 20 rfl rfl)
theorem dX48_line_605 : decode cX48_line 605 = .ok (.invokevirtual 559, 3) := dk_182 2 47 (dk_at dksX48_line_25 21 rfl rfl)
theorem dX48_line_608 : decode cX48_line 608 = .ok (.goto 4, 3) := dk_167 0 4 (dk_at dksX48_line_26 0 rfl rfl)
theorem dX48_line_611 : decode cX48_line 611 = .ok (.lconst 0, 1) := dk_9 (dk_at dksX48_line_26 3 rfl rfl)
theorem dX48_line_612 : decode cX48_line 612 = .ok (.lreturn, 1) := dk_173 (dk_at dksX48_line_26 4 rfl rfl)
theorem dX48_line_613 : decode cX48_line 613 = .ok (.aload_n 0, 1) := dk_42 (dk_at dksX48_line_26 5 rfl rfl)
theorem dX48_line_614 : decode cX48_line 614 = .ok (.ldc_w 562, 3) := dk_19 2 50 (dk_at dksX48_line_26 6 rfl rfl)
theorem dX48_line_617 : decode cX48_line 617 = .ok (.ldc_w 498, 3) := dk_19 1 242 (dk_at dksX48_line_26 9 rfl rfl)
theorem dX48_line_620 : decode cX48_line 620 = .ok (.invokevirtual 263, 3) := dk_182 1 7 (dk_at dksX48_line_26 12 rfl rfl)
theorem dX48_line_623 : decode cX48_line 623 = .ok (.ifCond .eq 43, 3) := dk_153 0 43 (dk_at dksX48_line_26 15 rfl rfl)
theorem dX48_line_626 : decode cX48_line 626 = .ok (.aload_n 0, 1) := dk_42 (dk_at dksX48_line_26 18 rfl rfl)
theorem dX48_line_627 : decode cX48_line 627 = .ok (.getfield 167, 3) := dk_180 0 167 (dk_at dksX48_line_26 19 rfl rfl)
theorem dX48_line_630 : decode cX48_line 630 = .ok (.ifCond .ge 34, 3) := dk_156 0 34 (dk_at dksX48_line_27 0 rfl rfl)
theorem dX48_line_633 : decode cX48_line 633 = .ok (.aload_n 0, 1) := dk_42 (dk_at dksX48_line_27 3 rfl rfl)
theorem dX48_line_634 : decode cX48_line 634 = .ok (.getfield 21, 3) := dk_180 0 21 (dk_at dksX48_line_27 4 rfl rfl)
theorem dX48_line_637 : decode cX48_line 637 = .ok (.aload_n 0, 1) := dk_42 (dk_at dksX48_line_27 7 rfl rfl)
theorem dX48_line_638 : decode cX48_line 638 = .ok (.getfield 99, 3) := dk_180 0 99 (dk_at dksX48_line_27 8 rfl rfl)
theorem dX48_line_641 : decode cX48_line 641 = .ok (.iconst 0, 1) := dk_3 (dk_at dksX48_line_27 11 rfl rfl)
theorem dX48_line_642 : decode cX48_line 642 = .ok (.laload, 1) := dk_47 (dk_at dksX48_line_27 12 rfl rfl)
theorem dX48_line_643 : decode cX48_line 643 = .ok (.l2i, 1) := dk_136 (dk_at dksX48_line_27 13 rfl rfl)
theorem dX48_line_644 : decode cX48_line 644 = .ok (.aload_n 0, 1) := dk_42 (dk_at dksX48_line_27 14 rfl rfl)
theorem dX48_line_645 : decode cX48_line 645 = .ok (.getfield 99, 3) := dk_180 0 99 (dk_at dksX48_line_27 15 rfl rfl)
theorem dX48_line_648 : decode cX48_line 648 = .ok (.iconst 1, 1) := dk_4 (dk_at dksX48_line_27 18 rfl rfl)
theorem dX48_line_649 : decode cX48_line 649 = .ok (.laload, 1) := dk_47 (dk_at dksX48_line_27 19 rfl rfl)
theorem dX48_line_650 : decode cX48_line 650 = .ok (.l2i, 1) := dk_136 (dk_at dksX48_line_27 20 rfl rfl)
theorem dX48_line_651 : decode cX48_line 651 = .ok (.aload_n 0, 1) := dk_42 (dk_at dksX48_line_27 21 rfl rfl)
theorem dX48_line_652 : decode cX48_line 652 = .ok (.getfield 99, 3) := dk_180 0 99 (dk_at dksX48_line_28 0 rfl rfl)
theorem dX48_line_655 : decode cX48_line 655 = .ok (.iconst 2, 1) := dk_5 (dk_at dksX48_line_28 3 rfl rfl)
theorem dX48_line_656 : decode cX48_line 656 = .ok (.laload, 1) := dk_47 (dk_at dksX48_line_28 4 rfl rfl)
theorem dX48_line_657 : decode cX48_line 657 = .ok (.l2i, 1) := dk_136 (dk_at dksX48_line_28 5 rfl rfl)
theorem dX48_line_658 : decode cX48_line 658 = .ok (.invokevirtual 564, 3) := dk_182 2 52 (dk_at dksX48_line_28 6 rfl rfl)
theorem dX48_line_661 : decode cX48_line 661 = .ok (.goto 4, 3) := dk_167 0 4 (dk_at dksX48_line_28 9 rfl rfl)
theorem dX48_line_664 : decode cX48_line 664 = .ok (.lconst 0, 1) := dk_9 (dk_at dksX48_line_28 12 rfl rfl)
theorem dX48_line_665 : decode cX48_line 665 = .ok (.lreturn, 1) := dk_173 (dk_at dksX48_line_28 13 rfl rfl)
theorem dX48_line_666 : decode cX48_line 666 = .ok (.aload_n 0, 1) := dk_42 (dk_at dksX48_line_28 14 rfl rfl)
theorem dX48_line_667 : decode cX48_line 667 = .ok (.ldc_w 566, 3) := dk_19 2 54 (dk_at dksX48_line_28 15 rfl rfl)
theorem dX48_line_670 : decode cX48_line 670 = .ok (.ldc_w 530, 3) := dk_19 2 18 (dk_at dksX48_line_28 18 rfl rfl)
theorem dX48_line_673 : decode cX48_line 673 = .ok (.invokevirtual 263, 3) := dk_182 1 7 (dk_at dksX48_line_28 21 rfl rfl)
theorem dX48_line_676 : decode cX48_line 676 = .ok (.ifCond .eq 58, 3) := dk_153 0 58 (dk_at dksX48_line_29 0 rfl rfl)
theorem dX48_line_679 : decode cX48_line 679 = .ok (.aload_n 0, 1) := dk_42 (dk_at dksX48_line_29 3 rfl rfl)
theorem dX48_line_680 : decode cX48_line 680 = .ok (.getfield 167, 3) := dk_180 0 167 (dk_at dksX48_line_29 4 rfl rfl)
theorem dX48_line_683 : decode cX48_line 683 = .ok (.ifCond .ge 49, 3) := dk_156 0 49 (dk_at dksX48_line_29 7 rfl rfl)
theorem dX48_line_686 : decode cX48_line 686 = .ok (.aload_n 0, 1) := dk_42 (dk_at dksX48_line_29 10 rfl rfl)
theorem dX48_line_687 : decode cX48_line 687 = .ok (.getfield 21, 3) := dk_180 0 21 (dk_at dksX48_line_29 11 rfl rfl)
theorem dX48_line_690 : decode cX48_line 690 = .ok (.aload_n 0, 1) := dk_42 (dk_at dksX48_line_29 14 rfl rfl)
theorem dX48_line_691 : decode cX48_line 691 = .ok (.getfield 99, 3) := dk_180 0 99 (dk_at dksX48_line_29 15 rfl rfl)
theorem dX48_line_694 : decode cX48_line 694 = .ok (.iconst 0, 1) := dk_3 (dk_at dksX48_line_29 18 rfl rfl)
theorem dX48_line_695 : decode cX48_line 695 = .ok (.laload, 1) := dk_47 (dk_at dksX48_line_29 19 rfl rfl)
theorem dX48_line_696 : decode cX48_line 696 = .ok (.l2i, 1) := dk_136 (dk_at dksX48_line_29 20 rfl rfl)
theorem dX48_line_697 : decode cX48_line 697 = .ok (.aload_n 0, 1) := dk_42 (dk_at dksX48_line_29 21 rfl rfl)
theorem dX48_line_698 : decode cX48_line 698 = .ok (.getfield 99, 3) := dk_180 0 99 (dk_at dksX48_line_30 0 rfl rfl)
theorem dX48_line_701 : decode cX48_line 701 = .ok (.iconst 1, 1) := dk_4 (dk_at dksX48_line_30 3 rfl rfl)
theorem dX48_line_702 : decode cX48_line 702 = .ok (.laload, 1) := dk_47 (dk_at dksX48_line_30 4 rfl rfl)
theorem dX48_line_703 : decode cX48_line 703 = .ok (.l2i, 1) := dk_136 (dk_at dksX48_line_30 5 rfl rfl)
theorem dX48_line_704 : decode cX48_line 704 = .ok (.aload_n 0, 1) := dk_42 (dk_at dksX48_line_30 6 rfl rfl)
theorem dX48_line_705 : decode cX48_line 705 = .ok (.getfield 99, 3) := dk_180 0 99 (dk_at dksX48_line_30 7 rfl rfl)
theorem dX48_line_708 : decode cX48_line 708 = .ok (.iconst 2, 1) := dk_5 (dk_at dksX48_line_30 10 rfl rfl)
theorem dX48_line_709 : decode cX48_line 709 = .ok (.laload, 1) := dk_47 (dk_at dksX48_line_30 11 rfl rfl)
theorem dX48_line_710 : decode cX48_line 710 = .ok (.l2i, 1) := dk_136 (dk_at dksX48_line_30 12 rfl rfl)
theorem dX48_line_711 : decode cX48_line 711 = .ok (.aload_n 0, 1) := dk_42 (dk_at dksX48_line_30 13 rfl rfl)
theorem dX48_line_712 : decode cX48_line 712 = .ok (.getfield 99, 3) := dk_180 0 99 (dk_at dksX48_line_30 14 rfl rfl)
theorem dX48_line_715 : decode cX48_line 715 = .ok (.iconst 3, 1) := dk_6 (dk_at dksX48_line_30 17 rfl rfl)
theorem dX48_line_716 : decode cX48_line 716 = .ok (.laload, 1) := dk_47 (dk_at dksX48_line_30 18 rfl rfl)
theorem dX48_line_717 : decode cX48_line 717 = .ok (.aload_n 0, 1) := dk_42 (dk_at dksX48_line_30 19 rfl rfl)
theorem dX48_line_718 : decode cX48_line 718 = .ok (.getfield 99, 3) := dk_180 0 99 (dk_at dksX48_line_30 20 rfl rfl)
theorem dX48_line_721 : decode cX48_line 721 = .ok (.iconst 4, 1) := dk_7 (dk_at dksX48_line_30 23 rfl rfl)
theorem dX48_line_722 : decode cX48_line 722 = .ok (.laload, 1) := dk_47 (dk_at dksX48_line_31 0 rfl rfl)
theorem dX48_line_723 : decode cX48_line 723 = .ok (.invokevirtual 568, 3) := dk_182 2 56 (dk_at dksX48_line_31 1 rfl rfl)
theorem dX48_line_726 : decode cX48_line 726 = .ok (.invokestatic 328, 3) := dk_184 1 72 (dk_at dksX48_line_31 4 rfl rfl)
theorem dX48_line_729 : decode cX48_line 729 = .ok (.goto 4, 3) := dk_167 0 4 (dk_at dksX48_line_31 7 rfl rfl)
theorem dX48_line_732 : decode cX48_line 732 = .ok (.lconst 0, 1) := dk_9 (dk_at dksX48_line_31 10 rfl rfl)
theorem dX48_line_733 : decode cX48_line 733 = .ok (.lreturn, 1) := dk_173 (dk_at dksX48_line_31 11 rfl rfl)
theorem dX48_line_734 : decode cX48_line 734 = .ok (.aload_n 0, 1) := dk_42 (dk_at dksX48_line_31 12 rfl rfl)
theorem dX48_line_735 : decode cX48_line 735 = .ok (.ldc_w 570, 3) := dk_19 2 58 (dk_at dksX48_line_31 13 rfl rfl)
theorem dX48_line_738 : decode cX48_line 738 = .ok (.ldc_w 451, 3) := dk_19 1 195 (dk_at dksX48_line_31 16 rfl rfl)
theorem dX48_line_741 : decode cX48_line 741 = .ok (.invokevirtual 263, 3) := dk_182 1 7 (dk_at dksX48_line_31 19 rfl rfl)
theorem dX48_line_744 : decode cX48_line 744 = .ok (.ifCond .eq 43, 3) := dk_153 0 43 (dk_at dksX48_line_32 0 rfl rfl)
theorem dX48_line_747 : decode cX48_line 747 = .ok (.aload_n 0, 1) := dk_42 (dk_at dksX48_line_32 3 rfl rfl)
theorem dX48_line_748 : decode cX48_line 748 = .ok (.getfield 167, 3) := dk_180 0 167 (dk_at dksX48_line_32 4 rfl rfl)
theorem dX48_line_751 : decode cX48_line 751 = .ok (.ifCond .ge 34, 3) := dk_156 0 34 (dk_at dksX48_line_32 7 rfl rfl)
theorem dX48_line_754 : decode cX48_line 754 = .ok (.aload_n 0, 1) := dk_42 (dk_at dksX48_line_32 10 rfl rfl)
theorem dX48_line_755 : decode cX48_line 755 = .ok (.getfield 21, 3) := dk_180 0 21 (dk_at dksX48_line_32 11 rfl rfl)
theorem dX48_line_758 : decode cX48_line 758 = .ok (.aload_n 0, 1) := dk_42 (dk_at dksX48_line_32 14 rfl rfl)
theorem dX48_line_759 : decode cX48_line 759 = .ok (.getfield 99, 3) := dk_180 0 99 (dk_at dksX48_line_32 15 rfl rfl)
theorem dX48_line_762 : decode cX48_line 762 = .ok (.iconst 0, 1) := dk_3 (dk_at dksX48_line_32 18 rfl rfl)
theorem dX48_line_763 : decode cX48_line 763 = .ok (.laload, 1) := dk_47 (dk_at dksX48_line_32 19 rfl rfl)
theorem dX48_line_764 : decode cX48_line 764 = .ok (.l2i, 1) := dk_136 (dk_at dksX48_line_32 20 rfl rfl)
theorem dX48_line_765 : decode cX48_line 765 = .ok (.aload_n 0, 1) := dk_42 (dk_at dksX48_line_32 21 rfl rfl)
theorem dX48_line_766 : decode cX48_line 766 = .ok (.getfield 99, 3) := dk_180 0 99 (dk_at dksX48_line_33 0 rfl rfl)
theorem dX48_line_769 : decode cX48_line 769 = .ok (.iconst 1, 1) := dk_4 (dk_at dksX48_line_33 3 rfl rfl)
theorem dX48_line_770 : decode cX48_line 770 = .ok (.laload, 1) := dk_47 (dk_at dksX48_line_33 4 rfl rfl)
theorem dX48_line_771 : decode cX48_line 771 = .ok (.l2i, 1) := dk_136 (dk_at dksX48_line_33 5 rfl rfl)
theorem dX48_line_772 : decode cX48_line 772 = .ok (.aload_n 0, 1) := dk_42 (dk_at dksX48_line_33 6 rfl rfl)
theorem dX48_line_773 : decode cX48_line 773 = .ok (.getfield 99, 3) := dk_180 0 99 (dk_at dksX48_line_33 7 rfl rfl)
theorem dX48_line_776 : decode cX48_line 776 = .ok (.iconst 2, 1) := dk_5 (dk_at dksX48_line_33 10 rfl rfl)
theorem dX48_line_777 : decode cX48_line 777 = .ok (.laload, 1) := dk_47 (dk_at dksX48_line_33 11 rfl rfl)
theorem dX48_line_778 : decode cX48_line 778 = .ok (.invokevirtual 572, 3) := dk_182 2 60 (dk_at dksX48_line_33 12 rfl rfl)
theorem dX48_line_781 : decode cX48_line 781 = .ok (.i2l, 1) := dk_133 (dk_at dksX48_line_33 15 rfl rfl)
theorem dX48_line_782 : decode cX48_line 782 = .ok (.goto 4, 3) := dk_167 0 4 (dk_at dksX48_line_33 16 rfl rfl)
theorem dX48_line_785 : decode cX48_line 785 = .ok (.lconst 0, 1) := dk_9 (dk_at dksX48_line_33 19 rfl rfl)
theorem dX48_line_786 : decode cX48_line 786 = .ok (.lreturn, 1) := dk_173 (dk_at dksX48_line_33 20 rfl rfl)
theorem dX48_line_787 : decode cX48_line 787 = .ok (.aload_n 0, 1) := dk_42 (dk_at dksX48_line_33 21 rfl rfl)
theorem dX48_line_788 : decode cX48_line 788 = .ok (.ldc_w 575, 3) := dk_19 2 63 (dk_at dksX48_line_34 0 rfl rfl)
theorem dX48_line_791 : decode cX48_line 791 = .ok (.ldc_w 272, 3) := dk_19 1 16 (dk_at dksX48_line_34 3 rfl rfl)
theorem dX48_line_794 : decode cX48_line 794 = .ok (.invokevirtual 263, 3) := dk_182 1 7 (dk_at dksX48_line_34 6 rfl rfl)
theorem dX48_line_797 : decode cX48_line 797 = .ok (.ifCond .eq 25, 3) := dk_153 0 25 (dk_at dksX48_line_34 9 rfl rfl)
theorem dX48_line_800 : decode cX48_line 800 = .ok (.aload_n 0, 1) := dk_42 (dk_at dksX48_line_34 12 rfl rfl)
theorem dX48_line_801 : decode cX48_line 801 = .ok (.getfield 167, 3) := dk_180 0 167 (dk_at dksX48_line_34 13 rfl rfl)
theorem dX48_line_804 : decode cX48_line 804 = .ok (.ifCond .ge 16, 3) := dk_156 0 16 (dk_at dksX48_line_34 16 rfl rfl)
theorem dX48_line_807 : decode cX48_line 807 = .ok (.aload_n 0, 1) := dk_42 (dk_at dksX48_line_34 19 rfl rfl)
theorem dX48_line_808 : decode cX48_line 808 = .ok (.getfield 21, 3) := dk_180 0 21 (dk_at dksX48_line_34 20 rfl rfl)
theorem dX48_line_811 : decode cX48_line 811 = .ok (.invokevirtual 576, 3) := dk_182 2 64 (dk_at dksX48_line_35 0 rfl rfl)
theorem dX48_line_814 : decode cX48_line 814 = .ok (.invokestatic 328, 3) := dk_184 1 72 (dk_at dksX48_line_35 3 rfl rfl)
theorem dX48_line_817 : decode cX48_line 817 = .ok (.goto 4, 3) := dk_167 0 4 (dk_at dksX48_line_35 6 rfl rfl)
theorem dX48_line_820 : decode cX48_line 820 = .ok (.lconst 0, 1) := dk_9 (dk_at dksX48_line_35 9 rfl rfl)
theorem dX48_line_821 : decode cX48_line 821 = .ok (.lreturn, 1) := dk_173 (dk_at dksX48_line_35 10 rfl rfl)
theorem dX48_line_822 : decode cX48_line 822 = .ok (.aload_n 0, 1) := dk_42 (dk_at dksX48_line_35 11 rfl rfl)
theorem dX48_line_823 : decode cX48_line 823 = .ok (.invokevirtual 332, 3) := dk_182 1 76 (dk_at dksX48_line_35 12 rfl rfl)
theorem dX48_line_826 : decode cX48_line 826 = .ok (.lreturn, 1) := dk_173 (dk_at dksX48_line_35 15 rfl rfl)
abbrev cX48_hazards : ByteArray := prog_56_method_40_code
def yX48_hazards : MethodName := ⟨RX48, "hazards", "()J"⟩
def dkwX48_hazards_32 : List UInt8 := [182, 2, 132, 133, 167, 0, 4, 9, 173, 42, 182, 1, 76, 173]
abbrev dktX48_hazards_32 : List UInt8 := dkwX48_hazards_32 ++ []
def dkwX48_hazards_31 : List UInt8 := [182, 1, 7, 153, 0, 30, 42, 180, 0, 167, 156, 0, 21, 42, 180, 0, 28, 42, 180, 0, 99, 3, 47, 136]
abbrev dktX48_hazards_31 : List UInt8 := dkwX48_hazards_31 ++ dktX48_hazards_32
def dkwX48_hazards_30 : List UInt8 := [42, 180, 0, 99, 4, 47, 136, 182, 2, 128, 133, 167, 0, 4, 9, 173, 42, 19, 2, 130, 19, 1, 22]
abbrev dktX48_hazards_30 : List UInt8 := dkwX48_hazards_30 ++ dktX48_hazards_31
def dkwX48_hazards_29 : List UInt8 := [182, 1, 7, 153, 0, 37, 42, 180, 0, 167, 156, 0, 28, 42, 180, 0, 28, 42, 180, 0, 99, 3, 47, 136]
abbrev dktX48_hazards_29 : List UInt8 := dkwX48_hazards_29 ++ dktX48_hazards_30
def dkwX48_hazards_28 : List UInt8 := [42, 180, 0, 99, 5, 47, 136, 182, 2, 124, 167, 0, 4, 9, 173, 42, 19, 2, 126, 19, 1, 36]
abbrev dktX48_hazards_28 : List UInt8 := dkwX48_hazards_28 ++ dktX48_hazards_29
def dkwX48_hazards_27 : List UInt8 := [180, 0, 167, 156, 0, 34, 42, 180, 0, 28, 42, 180, 0, 99, 3, 47, 136, 42, 180, 0, 99, 4, 47, 136]
abbrev dktX48_hazards_27 : List UInt8 := dkwX48_hazards_27 ++ dktX48_hazards_28
def dkwX48_hazards_26 : List UInt8 := [182, 2, 120, 167, 0, 4, 9, 173, 42, 19, 2, 122, 19, 1, 242, 182, 1, 7, 153, 0, 43, 42]
abbrev dktX48_hazards_26 : List UInt8 := dkwX48_hazards_26 ++ dktX48_hazards_27
def dkwX48_hazards_25 : List UInt8 := [182, 1, 7, 153, 0, 29, 42, 180, 0, 167, 156, 0, 20, 42, 180, 0, 28, 42, 180, 0, 99, 3, 47, 136]
abbrev dktX48_hazards_25 : List UInt8 := dkwX48_hazards_25 ++ dktX48_hazards_26
def dkwX48_hazards_24 : List UInt8 := [42, 180, 0, 99, 5, 47, 136, 182, 2, 115, 133, 167, 0, 4, 9, 173, 42, 19, 2, 118, 19, 1, 22]
abbrev dktX48_hazards_24 : List UInt8 := dkwX48_hazards_24 ++ dktX48_hazards_25
def dkwX48_hazards_23 : List UInt8 := [180, 0, 167, 156, 0, 35, 42, 180, 0, 28, 42, 180, 0, 99, 3, 47, 136, 42, 180, 0, 99, 4, 47, 136]
abbrev dktX48_hazards_23 : List UInt8 := dkwX48_hazards_23 ++ dktX48_hazards_24
def dkwX48_hazards_22 : List UInt8 := [182, 2, 111, 133, 167, 0, 4, 9, 173, 42, 19, 2, 113, 19, 1, 242, 182, 1, 7, 153, 0, 44, 42]
abbrev dktX48_hazards_22 : List UInt8 := dkwX48_hazards_22 ++ dktX48_hazards_23
def dkwX48_hazards_21 : List UInt8 := [182, 1, 7, 153, 0, 30, 42, 180, 0, 167, 156, 0, 21, 42, 180, 0, 28, 42, 180, 0, 99, 3, 47, 136]
abbrev dktX48_hazards_21 : List UInt8 := dkwX48_hazards_21 ++ dktX48_hazards_22
def dkwX48_hazards_20 : List UInt8 := [42, 180, 0, 99, 4, 47, 136, 182, 2, 107, 133, 167, 0, 4, 9, 173, 42, 19, 2, 109, 19, 1, 22]
abbrev dktX48_hazards_20 : List UInt8 := dkwX48_hazards_20 ++ dktX48_hazards_21
def dkwX48_hazards_19 : List UInt8 := [182, 1, 7, 153, 0, 37, 42, 180, 0, 167, 156, 0, 28, 42, 180, 0, 28, 42, 180, 0, 99, 3, 47, 136]
abbrev dktX48_hazards_19 : List UInt8 := dkwX48_hazards_19 ++ dktX48_hazards_20
def dkwX48_hazards_18 : List UInt8 := [156, 0, 14, 42, 180, 0, 28, 182, 1, 134, 133, 167, 0, 4, 9, 173, 42, 19, 2, 105, 19, 1, 36]
abbrev dktX48_hazards_18 : List UInt8 := dkwX48_hazards_18 ++ dktX48_hazards_19
def dkwX48_hazards_17 : List UInt8 := [133, 167, 0, 4, 9, 173, 42, 19, 2, 104, 19, 1, 16, 182, 1, 7, 153, 0, 23, 42, 180, 0, 167]
abbrev dktX48_hazards_17 : List UInt8 := dkwX48_hazards_17 ++ dktX48_hazards_18
def dkwX48_hazards_16 : List UInt8 := [153, 0, 30, 42, 180, 0, 167, 156, 0, 21, 42, 180, 0, 28, 42, 180, 0, 99, 3, 47, 136, 182, 2, 102]
abbrev dktX48_hazards_16 : List UInt8 := dkwX48_hazards_16 ++ dktX48_hazards_17
def dkwX48_hazards_15 : List UInt8 := [3, 47, 136, 182, 2, 97, 133, 167, 0, 4, 9, 173, 42, 19, 2, 100, 19, 1, 22, 182, 1, 7]
abbrev dktX48_hazards_15 : List UInt8 := dkwX48_hazards_15 ++ dktX48_hazards_16
def dkwX48_hazards_14 : List UInt8 := [19, 1, 22, 182, 1, 7, 153, 0, 30, 42, 180, 0, 167, 156, 0, 21, 42, 180, 0, 28, 42, 180, 0, 99]
abbrev dktX48_hazards_14 : List UInt8 := dkwX48_hazards_14 ++ dktX48_hazards_15
def dkwX48_hazards_13 : List UInt8 := [180, 0, 28, 42, 180, 0, 99, 3, 47, 182, 2, 95, 133, 167, 0, 4, 9, 173, 42, 19, 1, 26]
abbrev dktX48_hazards_13 : List UInt8 := dkwX48_hazards_13 ++ dktX48_hazards_14
def dkwX48_hazards_12 : List UInt8 := [173, 42, 19, 2, 93, 19, 2, 71, 182, 1, 7, 153, 0, 29, 42, 180, 0, 167, 156, 0, 20, 42]
abbrev dktX48_hazards_12 : List UInt8 := dkwX48_hazards_12 ++ dktX48_hazards_13
def dkwX48_hazards_11 : List UInt8 := [180, 0, 167, 156, 0, 20, 42, 180, 0, 28, 42, 180, 0, 99, 3, 47, 182, 1, 131, 133, 167, 0, 4, 9]
abbrev dktX48_hazards_11 : List UInt8 := dkwX48_hazards_11 ++ dktX48_hazards_12
def dkwX48_hazards_10 : List UInt8 := [184, 1, 72, 167, 0, 4, 9, 173, 42, 19, 2, 92, 19, 2, 71, 182, 1, 7, 153, 0, 29, 42]
abbrev dktX48_hazards_10 : List UInt8 := dkwX48_hazards_10 ++ dktX48_hazards_11
def dkwX48_hazards_9 : List UInt8 := [180, 0, 28, 42, 180, 0, 99, 3, 47, 10, 148, 154, 0, 7, 4, 167, 0, 4, 3, 182, 2, 89]
abbrev dktX48_hazards_9 : List UInt8 := dkwX48_hazards_9 ++ dktX48_hazards_10
def dkwX48_hazards_8 : List UInt8 := [173, 42, 19, 2, 85, 19, 2, 87, 182, 1, 7, 153, 0, 41, 42, 180, 0, 167, 156, 0, 32, 42]
abbrev dktX48_hazards_8 : List UInt8 := dkwX48_hazards_8 ++ dktX48_hazards_9
def dkwX48_hazards_7 : List UInt8 := [19, 1, 16, 182, 1, 7, 153, 0, 19, 42, 180, 0, 167, 156, 0, 10, 42, 180, 0, 28, 182, 2, 82, 10]
abbrev dktX48_hazards_7 : List UInt8 := dkwX48_hazards_7 ++ dktX48_hazards_8
def dkwX48_hazards_6 : List UInt8 := [42, 180, 0, 99, 4, 47, 136, 182, 2, 78, 184, 1, 72, 167, 0, 4, 9, 173, 42, 19, 2, 80]
abbrev dktX48_hazards_6 : List UInt8 := dkwX48_hazards_6 ++ dktX48_hazards_7
def dkwX48_hazards_5 : List UInt8 := [182, 1, 7, 153, 0, 39, 42, 180, 0, 167, 156, 0, 30, 42, 180, 0, 28, 42, 180, 0, 99, 3, 47, 136]
abbrev dktX48_hazards_5 : List UInt8 := dkwX48_hazards_5 ++ dktX48_hazards_6
def dkwX48_hazards_4 : List UInt8 := [180, 0, 99, 5, 47, 182, 1, 127, 184, 1, 72, 167, 0, 4, 9, 173, 42, 19, 2, 76, 19, 1, 36]
abbrev dktX48_hazards_4 : List UInt8 := dkwX48_hazards_4 ++ dktX48_hazards_5
def dkwX48_hazards_3 : List UInt8 := [180, 0, 167, 156, 0, 35, 42, 180, 0, 28, 42, 180, 0, 99, 3, 47, 136, 42, 180, 0, 99, 4, 47, 42]
abbrev dktX48_hazards_3 : List UInt8 := dkwX48_hazards_3 ++ dktX48_hazards_4
def dkwX48_hazards_2 : List UInt8 := [182, 2, 73, 133, 167, 0, 4, 9, 173, 42, 19, 2, 75, 19, 2, 35, 182, 1, 7, 153, 0, 44, 42]
abbrev dktX48_hazards_2 : List UInt8 := dkwX48_hazards_2 ++ dktX48_hazards_3
def dkwX48_hazards_1 : List UInt8 := [182, 1, 7, 153, 0, 29, 42, 180, 0, 167, 156, 0, 20, 42, 180, 0, 28, 42, 180, 0, 99, 3, 47]
abbrev dktX48_hazards_1 : List UInt8 := dkwX48_hazards_1 ++ dktX48_hazards_2
def dkwX48_hazards_0 : List UInt8 := [42, 19, 2, 65, 1, 182, 1, 7, 153, 0, 8, 42, 182, 2, 66, 173, 42, 19, 2, 69, 19, 2, 71]
abbrev dktX48_hazards_0 : List UInt8 := dkwX48_hazards_0 ++ dktX48_hazards_1
theorem dksX48_hazards_0 : cX48_hazards.data.toList.drop 0 = dktX48_hazards_0 := by decide +kernel
theorem dksX48_hazards_1 : cX48_hazards.data.toList.drop 23 = dktX48_hazards_1 := dk_seg dksX48_hazards_0 23 rfl rfl
theorem dksX48_hazards_2 : cX48_hazards.data.toList.drop 46 = dktX48_hazards_2 := dk_seg dksX48_hazards_1 23 rfl rfl
theorem dksX48_hazards_3 : cX48_hazards.data.toList.drop 69 = dktX48_hazards_3 := dk_seg dksX48_hazards_2 23 rfl rfl
theorem dksX48_hazards_4 : cX48_hazards.data.toList.drop 93 = dktX48_hazards_4 := dk_seg dksX48_hazards_3 24 rfl rfl
theorem dksX48_hazards_5 : cX48_hazards.data.toList.drop 116 = dktX48_hazards_5 := dk_seg dksX48_hazards_4 23 rfl rfl
theorem dksX48_hazards_6 : cX48_hazards.data.toList.drop 140 = dktX48_hazards_6 := dk_seg dksX48_hazards_5 24 rfl rfl
theorem dksX48_hazards_7 : cX48_hazards.data.toList.drop 162 = dktX48_hazards_7 := dk_seg dksX48_hazards_6 22 rfl rfl
theorem dksX48_hazards_8 : cX48_hazards.data.toList.drop 186 = dktX48_hazards_8 := dk_seg dksX48_hazards_7 24 rfl rfl
theorem dksX48_hazards_9 : cX48_hazards.data.toList.drop 208 = dktX48_hazards_9 := dk_seg dksX48_hazards_8 22 rfl rfl
theorem dksX48_hazards_10 : cX48_hazards.data.toList.drop 230 = dktX48_hazards_10 := dk_seg dksX48_hazards_9 22 rfl rfl
theorem dksX48_hazards_11 : cX48_hazards.data.toList.drop 252 = dktX48_hazards_11 := dk_seg dksX48_hazards_10 22 rfl rfl
theorem dksX48_hazards_12 : cX48_hazards.data.toList.drop 276 = dktX48_hazards_12 := dk_seg dksX48_hazards_11 24 rfl rfl
theorem dksX48_hazards_13 : cX48_hazards.data.toList.drop 298 = dktX48_hazards_13 := dk_seg dksX48_hazards_12 22 rfl rfl
theorem dksX48_hazards_14 : cX48_hazards.data.toList.drop 320 = dktX48_hazards_14 := dk_seg dksX48_hazards_13 22 rfl rfl
theorem dksX48_hazards_15 : cX48_hazards.data.toList.drop 344 = dktX48_hazards_15 := dk_seg dksX48_hazards_14 24 rfl rfl
theorem dksX48_hazards_16 : cX48_hazards.data.toList.drop 366 = dktX48_hazards_16 := dk_seg dksX48_hazards_15 22 rfl rfl
theorem dksX48_hazards_17 : cX48_hazards.data.toList.drop 390 = dktX48_hazards_17 := dk_seg dksX48_hazards_16 24 rfl rfl
theorem dksX48_hazards_18 : cX48_hazards.data.toList.drop 413 = dktX48_hazards_18 := dk_seg dksX48_hazards_17 23 rfl rfl
theorem dksX48_hazards_19 : cX48_hazards.data.toList.drop 436 = dktX48_hazards_19 := dk_seg dksX48_hazards_18 23 rfl rfl
theorem dksX48_hazards_20 : cX48_hazards.data.toList.drop 460 = dktX48_hazards_20 := dk_seg dksX48_hazards_19 24 rfl rfl
theorem dksX48_hazards_21 : cX48_hazards.data.toList.drop 483 = dktX48_hazards_21 := dk_seg dksX48_hazards_20 23 rfl rfl
theorem dksX48_hazards_22 : cX48_hazards.data.toList.drop 507 = dktX48_hazards_22 := dk_seg dksX48_hazards_21 24 rfl rfl
theorem dksX48_hazards_23 : cX48_hazards.data.toList.drop 530 = dktX48_hazards_23 := dk_seg dksX48_hazards_22 23 rfl rfl
theorem dksX48_hazards_24 : cX48_hazards.data.toList.drop 554 = dktX48_hazards_24 := dk_seg dksX48_hazards_23 24 rfl rfl
theorem dksX48_hazards_25 : cX48_hazards.data.toList.drop 577 = dktX48_hazards_25 := dk_seg dksX48_hazards_24 23 rfl rfl
theorem dksX48_hazards_26 : cX48_hazards.data.toList.drop 601 = dktX48_hazards_26 := dk_seg dksX48_hazards_25 24 rfl rfl
theorem dksX48_hazards_27 : cX48_hazards.data.toList.drop 623 = dktX48_hazards_27 := dk_seg dksX48_hazards_26 22 rfl rfl
theorem dksX48_hazards_28 : cX48_hazards.data.toList.drop 647 = dktX48_hazards_28 := dk_seg dksX48_hazards_27 24 rfl rfl
theorem dksX48_hazards_29 : cX48_hazards.data.toList.drop 669 = dktX48_hazards_29 := dk_seg dksX48_hazards_28 22 rfl rfl
theorem dksX48_hazards_30 : cX48_hazards.data.toList.drop 693 = dktX48_hazards_30 := dk_seg dksX48_hazards_29 24 rfl rfl
theorem dksX48_hazards_31 : cX48_hazards.data.toList.drop 716 = dktX48_hazards_31 := dk_seg dksX48_hazards_30 23 rfl rfl
theorem dksX48_hazards_32 : cX48_hazards.data.toList.drop 740 = dktX48_hazards_32 := dk_seg dksX48_hazards_31 24 rfl rfl
theorem dX48_hazards_0 : decode cX48_hazards 0 = .ok (.aload_n 0, 1) := dk_42 (dk_at dksX48_hazards_0 0 rfl rfl)
theorem dX48_hazards_1 : decode cX48_hazards 1 = .ok (.ldc_w 577, 3) := dk_19 2 65 (dk_at dksX48_hazards_0 1 rfl rfl)
theorem dX48_hazards_4 : decode cX48_hazards 4 = .ok (.aconst_null, 1) := dk_1 (dk_at dksX48_hazards_0 4 rfl rfl)
theorem dX48_hazards_5 : decode cX48_hazards 5 = .ok (.invokevirtual 263, 3) := dk_182 1 7 (dk_at dksX48_hazards_0 5 rfl rfl)
theorem dX48_hazards_8 : decode cX48_hazards 8 = .ok (.ifCond .eq 8, 3) := dk_153 0 8 (dk_at dksX48_hazards_0 8 rfl rfl)
theorem dX48_hazards_11 : decode cX48_hazards 11 = .ok (.aload_n 0, 1) := dk_42 (dk_at dksX48_hazards_0 11 rfl rfl)
theorem dX48_hazards_12 : decode cX48_hazards 12 = .ok (.invokevirtual 578, 3) := dk_182 2 66 (dk_at dksX48_hazards_0 12 rfl rfl)
theorem dX48_hazards_15 : decode cX48_hazards 15 = .ok (.lreturn, 1) := dk_173 (dk_at dksX48_hazards_0 15 rfl rfl)
theorem dX48_hazards_16 : decode cX48_hazards 16 = .ok (.aload_n 0, 1) := dk_42 (dk_at dksX48_hazards_0 16 rfl rfl)
theorem dX48_hazards_17 : decode cX48_hazards 17 = .ok (.ldc_w 581, 3) := dk_19 2 69 (dk_at dksX48_hazards_0 17 rfl rfl)
theorem dX48_hazards_20 : decode cX48_hazards 20 = .ok (.ldc_w 583, 3) := dk_19 2 71 (dk_at dksX48_hazards_0 20 rfl rfl)
theorem dX48_hazards_23 : decode cX48_hazards 23 = .ok (.invokevirtual 263, 3) := dk_182 1 7 (dk_at dksX48_hazards_1 0 rfl rfl)
theorem dX48_hazards_26 : decode cX48_hazards 26 = .ok (.ifCond .eq 29, 3) := dk_153 0 29 (dk_at dksX48_hazards_1 3 rfl rfl)
theorem dX48_hazards_29 : decode cX48_hazards 29 = .ok (.aload_n 0, 1) := dk_42 (dk_at dksX48_hazards_1 6 rfl rfl)
theorem dX48_hazards_30 : decode cX48_hazards 30 = .ok (.getfield 167, 3) := dk_180 0 167 (dk_at dksX48_hazards_1 7 rfl rfl)
theorem dX48_hazards_33 : decode cX48_hazards 33 = .ok (.ifCond .ge 20, 3) := dk_156 0 20 (dk_at dksX48_hazards_1 10 rfl rfl)
theorem dX48_hazards_36 : decode cX48_hazards 36 = .ok (.aload_n 0, 1) := dk_42 (dk_at dksX48_hazards_1 13 rfl rfl)
theorem dX48_hazards_37 : decode cX48_hazards 37 = .ok (.getfield 28, 3) := dk_180 0 28 (dk_at dksX48_hazards_1 14 rfl rfl)
theorem dX48_hazards_40 : decode cX48_hazards 40 = .ok (.aload_n 0, 1) := dk_42 (dk_at dksX48_hazards_1 17 rfl rfl)
theorem dX48_hazards_41 : decode cX48_hazards 41 = .ok (.getfield 99, 3) := dk_180 0 99 (dk_at dksX48_hazards_1 18 rfl rfl)
theorem dX48_hazards_44 : decode cX48_hazards 44 = .ok (.iconst 0, 1) := dk_3 (dk_at dksX48_hazards_1 21 rfl rfl)
theorem dX48_hazards_45 : decode cX48_hazards 45 = .ok (.laload, 1) := dk_47 (dk_at dksX48_hazards_1 22 rfl rfl)
theorem dX48_hazards_46 : decode cX48_hazards 46 = .ok (.invokevirtual 585, 3) := dk_182 2 73 (dk_at dksX48_hazards_2 0 rfl rfl)
theorem dX48_hazards_49 : decode cX48_hazards 49 = .ok (.i2l, 1) := dk_133 (dk_at dksX48_hazards_2 3 rfl rfl)
theorem dX48_hazards_50 : decode cX48_hazards 50 = .ok (.goto 4, 3) := dk_167 0 4 (dk_at dksX48_hazards_2 4 rfl rfl)
theorem dX48_hazards_53 : decode cX48_hazards 53 = .ok (.lconst 0, 1) := dk_9 (dk_at dksX48_hazards_2 7 rfl rfl)
theorem dX48_hazards_54 : decode cX48_hazards 54 = .ok (.lreturn, 1) := dk_173 (dk_at dksX48_hazards_2 8 rfl rfl)
theorem dX48_hazards_55 : decode cX48_hazards 55 = .ok (.aload_n 0, 1) := dk_42 (dk_at dksX48_hazards_2 9 rfl rfl)
theorem dX48_hazards_56 : decode cX48_hazards 56 = .ok (.ldc_w 587, 3) := dk_19 2 75 (dk_at dksX48_hazards_2 10 rfl rfl)
theorem dX48_hazards_59 : decode cX48_hazards 59 = .ok (.ldc_w 547, 3) := dk_19 2 35 (dk_at dksX48_hazards_2 13 rfl rfl)
theorem dX48_hazards_62 : decode cX48_hazards 62 = .ok (.invokevirtual 263, 3) := dk_182 1 7 (dk_at dksX48_hazards_2 16 rfl rfl)
theorem dX48_hazards_65 : decode cX48_hazards 65 = .ok (.ifCond .eq 44, 3) := dk_153 0 44 (dk_at dksX48_hazards_2 19 rfl rfl)
theorem dX48_hazards_68 : decode cX48_hazards 68 = .ok (.aload_n 0, 1) := dk_42 (dk_at dksX48_hazards_2 22 rfl rfl)
theorem dX48_hazards_69 : decode cX48_hazards 69 = .ok (.getfield 167, 3) := dk_180 0 167 (dk_at dksX48_hazards_3 0 rfl rfl)
theorem dX48_hazards_72 : decode cX48_hazards 72 = .ok (.ifCond .ge 35, 3) := dk_156 0 35 (dk_at dksX48_hazards_3 3 rfl rfl)
theorem dX48_hazards_75 : decode cX48_hazards 75 = .ok (.aload_n 0, 1) := dk_42 (dk_at dksX48_hazards_3 6 rfl rfl)
theorem dX48_hazards_76 : decode cX48_hazards 76 = .ok (.getfield 28, 3) := dk_180 0 28 (dk_at dksX48_hazards_3 7 rfl rfl)
theorem dX48_hazards_79 : decode cX48_hazards 79 = .ok (.aload_n 0, 1) := dk_42 (dk_at dksX48_hazards_3 10 rfl rfl)
theorem dX48_hazards_80 : decode cX48_hazards 80 = .ok (.getfield 99, 3) := dk_180 0 99 (dk_at dksX48_hazards_3 11 rfl rfl)
theorem dX48_hazards_83 : decode cX48_hazards 83 = .ok (.iconst 0, 1) := dk_3 (dk_at dksX48_hazards_3 14 rfl rfl)
theorem dX48_hazards_84 : decode cX48_hazards 84 = .ok (.laload, 1) := dk_47 (dk_at dksX48_hazards_3 15 rfl rfl)
theorem dX48_hazards_85 : decode cX48_hazards 85 = .ok (.l2i, 1) := dk_136 (dk_at dksX48_hazards_3 16 rfl rfl)
theorem dX48_hazards_86 : decode cX48_hazards 86 = .ok (.aload_n 0, 1) := dk_42 (dk_at dksX48_hazards_3 17 rfl rfl)
theorem dX48_hazards_87 : decode cX48_hazards 87 = .ok (.getfield 99, 3) := dk_180 0 99 (dk_at dksX48_hazards_3 18 rfl rfl)
theorem dX48_hazards_90 : decode cX48_hazards 90 = .ok (.iconst 1, 1) := dk_4 (dk_at dksX48_hazards_3 21 rfl rfl)
theorem dX48_hazards_91 : decode cX48_hazards 91 = .ok (.laload, 1) := dk_47 (dk_at dksX48_hazards_3 22 rfl rfl)
theorem dX48_hazards_92 : decode cX48_hazards 92 = .ok (.aload_n 0, 1) := dk_42 (dk_at dksX48_hazards_3 23 rfl rfl)
theorem dX48_hazards_93 : decode cX48_hazards 93 = .ok (.getfield 99, 3) := dk_180 0 99 (dk_at dksX48_hazards_4 0 rfl rfl)
theorem dX48_hazards_96 : decode cX48_hazards 96 = .ok (.iconst 2, 1) := dk_5 (dk_at dksX48_hazards_4 3 rfl rfl)
theorem dX48_hazards_97 : decode cX48_hazards 97 = .ok (.laload, 1) := dk_47 (dk_at dksX48_hazards_4 4 rfl rfl)
theorem dX48_hazards_98 : decode cX48_hazards 98 = .ok (.invokevirtual 383, 3) := dk_182 1 127 (dk_at dksX48_hazards_4 5 rfl rfl)
theorem dX48_hazards_101 : decode cX48_hazards 101 = .ok (.invokestatic 328, 3) := dk_184 1 72 (dk_at dksX48_hazards_4 8 rfl rfl)
theorem dX48_hazards_104 : decode cX48_hazards 104 = .ok (.goto 4, 3) := dk_167 0 4 (dk_at dksX48_hazards_4 11 rfl rfl)
theorem dX48_hazards_107 : decode cX48_hazards 107 = .ok (.lconst 0, 1) := dk_9 (dk_at dksX48_hazards_4 14 rfl rfl)
theorem dX48_hazards_108 : decode cX48_hazards 108 = .ok (.lreturn, 1) := dk_173 (dk_at dksX48_hazards_4 15 rfl rfl)
theorem dX48_hazards_109 : decode cX48_hazards 109 = .ok (.aload_n 0, 1) := dk_42 (dk_at dksX48_hazards_4 16 rfl rfl)
theorem dX48_hazards_110 : decode cX48_hazards 110 = .ok (.ldc_w 588, 3) := dk_19 2 76 (dk_at dksX48_hazards_4 17 rfl rfl)
theorem dX48_hazards_113 : decode cX48_hazards 113 = .ok (.ldc_w 292, 3) := dk_19 1 36 (dk_at dksX48_hazards_4 20 rfl rfl)
theorem dX48_hazards_116 : decode cX48_hazards 116 = .ok (.invokevirtual 263, 3) := dk_182 1 7 (dk_at dksX48_hazards_5 0 rfl rfl)
theorem dX48_hazards_119 : decode cX48_hazards 119 = .ok (.ifCond .eq 39, 3) := dk_153 0 39 (dk_at dksX48_hazards_5 3 rfl rfl)
theorem dX48_hazards_122 : decode cX48_hazards 122 = .ok (.aload_n 0, 1) := dk_42 (dk_at dksX48_hazards_5 6 rfl rfl)
theorem dX48_hazards_123 : decode cX48_hazards 123 = .ok (.getfield 167, 3) := dk_180 0 167 (dk_at dksX48_hazards_5 7 rfl rfl)
theorem dX48_hazards_126 : decode cX48_hazards 126 = .ok (.ifCond .ge 30, 3) := dk_156 0 30 (dk_at dksX48_hazards_5 10 rfl rfl)
theorem dX48_hazards_129 : decode cX48_hazards 129 = .ok (.aload_n 0, 1) := dk_42 (dk_at dksX48_hazards_5 13 rfl rfl)
theorem dX48_hazards_130 : decode cX48_hazards 130 = .ok (.getfield 28, 3) := dk_180 0 28 (dk_at dksX48_hazards_5 14 rfl rfl)
theorem dX48_hazards_133 : decode cX48_hazards 133 = .ok (.aload_n 0, 1) := dk_42 (dk_at dksX48_hazards_5 17 rfl rfl)
theorem dX48_hazards_134 : decode cX48_hazards 134 = .ok (.getfield 99, 3) := dk_180 0 99 (dk_at dksX48_hazards_5 18 rfl rfl)
theorem dX48_hazards_137 : decode cX48_hazards 137 = .ok (.iconst 0, 1) := dk_3 (dk_at dksX48_hazards_5 21 rfl rfl)
theorem dX48_hazards_138 : decode cX48_hazards 138 = .ok (.laload, 1) := dk_47 (dk_at dksX48_hazards_5 22 rfl rfl)
theorem dX48_hazards_139 : decode cX48_hazards 139 = .ok (.l2i, 1) := dk_136 (dk_at dksX48_hazards_5 23 rfl rfl)
theorem dX48_hazards_140 : decode cX48_hazards 140 = .ok (.aload_n 0, 1) := dk_42 (dk_at dksX48_hazards_6 0 rfl rfl)
theorem dX48_hazards_141 : decode cX48_hazards 141 = .ok (.getfield 99, 3) := dk_180 0 99 (dk_at dksX48_hazards_6 1 rfl rfl)
theorem dX48_hazards_144 : decode cX48_hazards 144 = .ok (.iconst 1, 1) := dk_4 (dk_at dksX48_hazards_6 4 rfl rfl)
theorem dX48_hazards_145 : decode cX48_hazards 145 = .ok (.laload, 1) := dk_47 (dk_at dksX48_hazards_6 5 rfl rfl)
theorem dX48_hazards_146 : decode cX48_hazards 146 = .ok (.l2i, 1) := dk_136 (dk_at dksX48_hazards_6 6 rfl rfl)
theorem dX48_hazards_147 : decode cX48_hazards 147 = .ok (.invokevirtual 590, 3) := dk_182 2 78 (dk_at dksX48_hazards_6 7 rfl rfl)
theorem dX48_hazards_150 : decode cX48_hazards 150 = .ok (.invokestatic 328, 3) := dk_184 1 72 (dk_at dksX48_hazards_6 10 rfl rfl)
theorem dX48_hazards_153 : decode cX48_hazards 153 = .ok (.goto 4, 3) := dk_167 0 4 (dk_at dksX48_hazards_6 13 rfl rfl)
theorem dX48_hazards_156 : decode cX48_hazards 156 = .ok (.lconst 0, 1) := dk_9 (dk_at dksX48_hazards_6 16 rfl rfl)
theorem dX48_hazards_157 : decode cX48_hazards 157 = .ok (.lreturn, 1) := dk_173 (dk_at dksX48_hazards_6 17 rfl rfl)
theorem dX48_hazards_158 : decode cX48_hazards 158 = .ok (.aload_n 0, 1) := dk_42 (dk_at dksX48_hazards_6 18 rfl rfl)
theorem dX48_hazards_159 : decode cX48_hazards 159 = .ok (.ldc_w 592, 3) := dk_19 2 80 (dk_at dksX48_hazards_6 19 rfl rfl)
theorem dX48_hazards_162 : decode cX48_hazards 162 = .ok (.ldc_w 272, 3) := dk_19 1 16 (dk_at dksX48_hazards_7 0 rfl rfl)
theorem dX48_hazards_165 : decode cX48_hazards 165 = .ok (.invokevirtual 263, 3) := dk_182 1 7 (dk_at dksX48_hazards_7 3 rfl rfl)
theorem dX48_hazards_168 : decode cX48_hazards 168 = .ok (.ifCond .eq 19, 3) := dk_153 0 19 (dk_at dksX48_hazards_7 6 rfl rfl)
theorem dX48_hazards_171 : decode cX48_hazards 171 = .ok (.aload_n 0, 1) := dk_42 (dk_at dksX48_hazards_7 9 rfl rfl)
theorem dX48_hazards_172 : decode cX48_hazards 172 = .ok (.getfield 167, 3) := dk_180 0 167 (dk_at dksX48_hazards_7 10 rfl rfl)
theorem dX48_hazards_175 : decode cX48_hazards 175 = .ok (.ifCond .ge 10, 3) := dk_156 0 10 (dk_at dksX48_hazards_7 13 rfl rfl)
theorem dX48_hazards_178 : decode cX48_hazards 178 = .ok (.aload_n 0, 1) := dk_42 (dk_at dksX48_hazards_7 16 rfl rfl)
theorem dX48_hazards_179 : decode cX48_hazards 179 = .ok (.getfield 28, 3) := dk_180 0 28 (dk_at dksX48_hazards_7 17 rfl rfl)
theorem dX48_hazards_182 : decode cX48_hazards 182 = .ok (.invokevirtual 594, 3) := dk_182 2 82 (dk_at dksX48_hazards_7 20 rfl rfl)
theorem dX48_hazards_185 : decode cX48_hazards 185 = .ok (.lconst 1, 1) := dk_10 (dk_at dksX48_hazards_7 23 rfl rfl)
theorem dX48_hazards_186 : decode cX48_hazards 186 = .ok (.lreturn, 1) := dk_173 (dk_at dksX48_hazards_8 0 rfl rfl)
theorem dX48_hazards_187 : decode cX48_hazards 187 = .ok (.aload_n 0, 1) := dk_42 (dk_at dksX48_hazards_8 1 rfl rfl)
theorem dX48_hazards_188 : decode cX48_hazards 188 = .ok (.ldc_w 597, 3) := dk_19 2 85 (dk_at dksX48_hazards_8 2 rfl rfl)
theorem dX48_hazards_191 : decode cX48_hazards 191 = .ok (.ldc_w 599, 3) := dk_19 2 87 (dk_at dksX48_hazards_8 5 rfl rfl)
theorem dX48_hazards_194 : decode cX48_hazards 194 = .ok (.invokevirtual 263, 3) := dk_182 1 7 (dk_at dksX48_hazards_8 8 rfl rfl)
theorem dX48_hazards_197 : decode cX48_hazards 197 = .ok (.ifCond .eq 41, 3) := dk_153 0 41 (dk_at dksX48_hazards_8 11 rfl rfl)
theorem dX48_hazards_200 : decode cX48_hazards 200 = .ok (.aload_n 0, 1) := dk_42 (dk_at dksX48_hazards_8 14 rfl rfl)
theorem dX48_hazards_201 : decode cX48_hazards 201 = .ok (.getfield 167, 3) := dk_180 0 167 (dk_at dksX48_hazards_8 15 rfl rfl)
theorem dX48_hazards_204 : decode cX48_hazards 204 = .ok (.ifCond .ge 32, 3) := dk_156 0 32 (dk_at dksX48_hazards_8 18 rfl rfl)
theorem dX48_hazards_207 : decode cX48_hazards 207 = .ok (.aload_n 0, 1) := dk_42 (dk_at dksX48_hazards_8 21 rfl rfl)
theorem dX48_hazards_208 : decode cX48_hazards 208 = .ok (.getfield 28, 3) := dk_180 0 28 (dk_at dksX48_hazards_9 0 rfl rfl)
theorem dX48_hazards_211 : decode cX48_hazards 211 = .ok (.aload_n 0, 1) := dk_42 (dk_at dksX48_hazards_9 3 rfl rfl)
theorem dX48_hazards_212 : decode cX48_hazards 212 = .ok (.getfield 99, 3) := dk_180 0 99 (dk_at dksX48_hazards_9 4 rfl rfl)
theorem dX48_hazards_215 : decode cX48_hazards 215 = .ok (.iconst 0, 1) := dk_3 (dk_at dksX48_hazards_9 7 rfl rfl)
theorem dX48_hazards_216 : decode cX48_hazards 216 = .ok (.laload, 1) := dk_47 (dk_at dksX48_hazards_9 8 rfl rfl)
theorem dX48_hazards_217 : decode cX48_hazards 217 = .ok (.lconst 1, 1) := dk_10 (dk_at dksX48_hazards_9 9 rfl rfl)
theorem dX48_hazards_218 : decode cX48_hazards 218 = .ok (.lcmp, 1) := dk_148 (dk_at dksX48_hazards_9 10 rfl rfl)
theorem dX48_hazards_219 : decode cX48_hazards 219 = .ok (.ifCond .ne 7, 3) := dk_154 0 7 (dk_at dksX48_hazards_9 11 rfl rfl)
theorem dX48_hazards_222 : decode cX48_hazards 222 = .ok (.iconst 1, 1) := dk_4 (dk_at dksX48_hazards_9 14 rfl rfl)
theorem dX48_hazards_223 : decode cX48_hazards 223 = .ok (.goto 4, 3) := dk_167 0 4 (dk_at dksX48_hazards_9 15 rfl rfl)
theorem dX48_hazards_226 : decode cX48_hazards 226 = .ok (.iconst 0, 1) := dk_3 (dk_at dksX48_hazards_9 18 rfl rfl)
theorem dX48_hazards_227 : decode cX48_hazards 227 = .ok (.invokevirtual 601, 3) := dk_182 2 89 (dk_at dksX48_hazards_9 19 rfl rfl)
theorem dX48_hazards_230 : decode cX48_hazards 230 = .ok (.invokestatic 328, 3) := dk_184 1 72 (dk_at dksX48_hazards_10 0 rfl rfl)
theorem dX48_hazards_233 : decode cX48_hazards 233 = .ok (.goto 4, 3) := dk_167 0 4 (dk_at dksX48_hazards_10 3 rfl rfl)
theorem dX48_hazards_236 : decode cX48_hazards 236 = .ok (.lconst 0, 1) := dk_9 (dk_at dksX48_hazards_10 6 rfl rfl)
theorem dX48_hazards_237 : decode cX48_hazards 237 = .ok (.lreturn, 1) := dk_173 (dk_at dksX48_hazards_10 7 rfl rfl)
theorem dX48_hazards_238 : decode cX48_hazards 238 = .ok (.aload_n 0, 1) := dk_42 (dk_at dksX48_hazards_10 8 rfl rfl)
theorem dX48_hazards_239 : decode cX48_hazards 239 = .ok (.ldc_w 604, 3) := dk_19 2 92 (dk_at dksX48_hazards_10 9 rfl rfl)
theorem dX48_hazards_242 : decode cX48_hazards 242 = .ok (.ldc_w 583, 3) := dk_19 2 71 (dk_at dksX48_hazards_10 12 rfl rfl)
theorem dX48_hazards_245 : decode cX48_hazards 245 = .ok (.invokevirtual 263, 3) := dk_182 1 7 (dk_at dksX48_hazards_10 15 rfl rfl)
theorem dX48_hazards_248 : decode cX48_hazards 248 = .ok (.ifCond .eq 29, 3) := dk_153 0 29 (dk_at dksX48_hazards_10 18 rfl rfl)
theorem dX48_hazards_251 : decode cX48_hazards 251 = .ok (.aload_n 0, 1) := dk_42 (dk_at dksX48_hazards_10 21 rfl rfl)
theorem dX48_hazards_252 : decode cX48_hazards 252 = .ok (.getfield 167, 3) := dk_180 0 167 (dk_at dksX48_hazards_11 0 rfl rfl)
theorem dX48_hazards_255 : decode cX48_hazards 255 = .ok (.ifCond .ge 20, 3) := dk_156 0 20 (dk_at dksX48_hazards_11 3 rfl rfl)
theorem dX48_hazards_258 : decode cX48_hazards 258 = .ok (.aload_n 0, 1) := dk_42 (dk_at dksX48_hazards_11 6 rfl rfl)
theorem dX48_hazards_259 : decode cX48_hazards 259 = .ok (.getfield 28, 3) := dk_180 0 28 (dk_at dksX48_hazards_11 7 rfl rfl)
theorem dX48_hazards_262 : decode cX48_hazards 262 = .ok (.aload_n 0, 1) := dk_42 (dk_at dksX48_hazards_11 10 rfl rfl)
theorem dX48_hazards_263 : decode cX48_hazards 263 = .ok (.getfield 99, 3) := dk_180 0 99 (dk_at dksX48_hazards_11 11 rfl rfl)
theorem dX48_hazards_266 : decode cX48_hazards 266 = .ok (.iconst 0, 1) := dk_3 (dk_at dksX48_hazards_11 14 rfl rfl)
theorem dX48_hazards_267 : decode cX48_hazards 267 = .ok (.laload, 1) := dk_47 (dk_at dksX48_hazards_11 15 rfl rfl)
theorem dX48_hazards_268 : decode cX48_hazards 268 = .ok (.invokevirtual 387, 3) := dk_182 1 131 (dk_at dksX48_hazards_11 16 rfl rfl)
theorem dX48_hazards_271 : decode cX48_hazards 271 = .ok (.i2l, 1) := dk_133 (dk_at dksX48_hazards_11 19 rfl rfl)
theorem dX48_hazards_272 : decode cX48_hazards 272 = .ok (.goto 4, 3) := dk_167 0 4 (dk_at dksX48_hazards_11 20 rfl rfl)
theorem dX48_hazards_275 : decode cX48_hazards 275 = .ok (.lconst 0, 1) := dk_9 (dk_at dksX48_hazards_11 23 rfl rfl)
theorem dX48_hazards_276 : decode cX48_hazards 276 = .ok (.lreturn, 1) := dk_173 (dk_at dksX48_hazards_12 0 rfl rfl)
theorem dX48_hazards_277 : decode cX48_hazards 277 = .ok (.aload_n 0, 1) := dk_42 (dk_at dksX48_hazards_12 1 rfl rfl)
theorem dX48_hazards_278 : decode cX48_hazards 278 = .ok (.ldc_w 605, 3) := dk_19 2 93 (dk_at dksX48_hazards_12 2 rfl rfl)
theorem dX48_hazards_281 : decode cX48_hazards 281 = .ok (.ldc_w 583, 3) := dk_19 2 71 (dk_at dksX48_hazards_12 5 rfl rfl)
theorem dX48_hazards_284 : decode cX48_hazards 284 = .ok (.invokevirtual 263, 3) := dk_182 1 7 (dk_at dksX48_hazards_12 8 rfl rfl)
theorem dX48_hazards_287 : decode cX48_hazards 287 = .ok (.ifCond .eq 29, 3) := dk_153 0 29 (dk_at dksX48_hazards_12 11 rfl rfl)
theorem dX48_hazards_290 : decode cX48_hazards 290 = .ok (.aload_n 0, 1) := dk_42 (dk_at dksX48_hazards_12 14 rfl rfl)
theorem dX48_hazards_291 : decode cX48_hazards 291 = .ok (.getfield 167, 3) := dk_180 0 167 (dk_at dksX48_hazards_12 15 rfl rfl)
theorem dX48_hazards_294 : decode cX48_hazards 294 = .ok (.ifCond .ge 20, 3) := dk_156 0 20 (dk_at dksX48_hazards_12 18 rfl rfl)
theorem dX48_hazards_297 : decode cX48_hazards 297 = .ok (.aload_n 0, 1) := dk_42 (dk_at dksX48_hazards_12 21 rfl rfl)
theorem dX48_hazards_298 : decode cX48_hazards 298 = .ok (.getfield 28, 3) := dk_180 0 28 (dk_at dksX48_hazards_13 0 rfl rfl)
theorem dX48_hazards_301 : decode cX48_hazards 301 = .ok (.aload_n 0, 1) := dk_42 (dk_at dksX48_hazards_13 3 rfl rfl)
theorem dX48_hazards_302 : decode cX48_hazards 302 = .ok (.getfield 99, 3) := dk_180 0 99 (dk_at dksX48_hazards_13 4 rfl rfl)
theorem dX48_hazards_305 : decode cX48_hazards 305 = .ok (.iconst 0, 1) := dk_3 (dk_at dksX48_hazards_13 7 rfl rfl)
theorem dX48_hazards_306 : decode cX48_hazards 306 = .ok (.laload, 1) := dk_47 (dk_at dksX48_hazards_13 8 rfl rfl)
theorem dX48_hazards_307 : decode cX48_hazards 307 = .ok (.invokevirtual 607, 3) := dk_182 2 95 (dk_at dksX48_hazards_13 9 rfl rfl)
theorem dX48_hazards_310 : decode cX48_hazards 310 = .ok (.i2l, 1) := dk_133 (dk_at dksX48_hazards_13 12 rfl rfl)
theorem dX48_hazards_311 : decode cX48_hazards 311 = .ok (.goto 4, 3) := dk_167 0 4 (dk_at dksX48_hazards_13 13 rfl rfl)
theorem dX48_hazards_314 : decode cX48_hazards 314 = .ok (.lconst 0, 1) := dk_9 (dk_at dksX48_hazards_13 16 rfl rfl)
theorem dX48_hazards_315 : decode cX48_hazards 315 = .ok (.lreturn, 1) := dk_173 (dk_at dksX48_hazards_13 17 rfl rfl)
theorem dX48_hazards_316 : decode cX48_hazards 316 = .ok (.aload_n 0, 1) := dk_42 (dk_at dksX48_hazards_13 18 rfl rfl)
theorem dX48_hazards_317 : decode cX48_hazards 317 = .ok (.ldc_w 282, 3) := dk_19 1 26 (dk_at dksX48_hazards_13 19 rfl rfl)
theorem dX48_hazards_320 : decode cX48_hazards 320 = .ok (.ldc_w 278, 3) := dk_19 1 22 (dk_at dksX48_hazards_14 0 rfl rfl)
theorem dX48_hazards_323 : decode cX48_hazards 323 = .ok (.invokevirtual 263, 3) := dk_182 1 7 (dk_at dksX48_hazards_14 3 rfl rfl)
theorem dX48_hazards_326 : decode cX48_hazards 326 = .ok (.ifCond .eq 30, 3) := dk_153 0 30 (dk_at dksX48_hazards_14 6 rfl rfl)
theorem dX48_hazards_329 : decode cX48_hazards 329 = .ok (.aload_n 0, 1) := dk_42 (dk_at dksX48_hazards_14 9 rfl rfl)
theorem dX48_hazards_330 : decode cX48_hazards 330 = .ok (.getfield 167, 3) := dk_180 0 167 (dk_at dksX48_hazards_14 10 rfl rfl)
theorem dX48_hazards_333 : decode cX48_hazards 333 = .ok (.ifCond .ge 21, 3) := dk_156 0 21 (dk_at dksX48_hazards_14 13 rfl rfl)
theorem dX48_hazards_336 : decode cX48_hazards 336 = .ok (.aload_n 0, 1) := dk_42 (dk_at dksX48_hazards_14 16 rfl rfl)
theorem dX48_hazards_337 : decode cX48_hazards 337 = .ok (.getfield 28, 3) := dk_180 0 28 (dk_at dksX48_hazards_14 17 rfl rfl)
theorem dX48_hazards_340 : decode cX48_hazards 340 = .ok (.aload_n 0, 1) := dk_42 (dk_at dksX48_hazards_14 20 rfl rfl)
theorem dX48_hazards_341 : decode cX48_hazards 341 = .ok (.getfield 99, 3) := dk_180 0 99 (dk_at dksX48_hazards_14 21 rfl rfl)
theorem dX48_hazards_344 : decode cX48_hazards 344 = .ok (.iconst 0, 1) := dk_3 (dk_at dksX48_hazards_15 0 rfl rfl)
theorem dX48_hazards_345 : decode cX48_hazards 345 = .ok (.laload, 1) := dk_47 (dk_at dksX48_hazards_15 1 rfl rfl)
theorem dX48_hazards_346 : decode cX48_hazards 346 = .ok (.l2i, 1) := dk_136 (dk_at dksX48_hazards_15 2 rfl rfl)
theorem dX48_hazards_347 : decode cX48_hazards 347 = .ok (.invokevirtual 609, 3) := dk_182 2 97 (dk_at dksX48_hazards_15 3 rfl rfl)
theorem dX48_hazards_350 : decode cX48_hazards 350 = .ok (.i2l, 1) := dk_133 (dk_at dksX48_hazards_15 6 rfl rfl)
theorem dX48_hazards_351 : decode cX48_hazards 351 = .ok (.goto 4, 3) := dk_167 0 4 (dk_at dksX48_hazards_15 7 rfl rfl)
theorem dX48_hazards_354 : decode cX48_hazards 354 = .ok (.lconst 0, 1) := dk_9 (dk_at dksX48_hazards_15 10 rfl rfl)
theorem dX48_hazards_355 : decode cX48_hazards 355 = .ok (.lreturn, 1) := dk_173 (dk_at dksX48_hazards_15 11 rfl rfl)
theorem dX48_hazards_356 : decode cX48_hazards 356 = .ok (.aload_n 0, 1) := dk_42 (dk_at dksX48_hazards_15 12 rfl rfl)
theorem dX48_hazards_357 : decode cX48_hazards 357 = .ok (.ldc_w 612, 3) := dk_19 2 100 (dk_at dksX48_hazards_15 13 rfl rfl)
theorem dX48_hazards_360 : decode cX48_hazards 360 = .ok (.ldc_w 278, 3) := dk_19 1 22 (dk_at dksX48_hazards_15 16 rfl rfl)
theorem dX48_hazards_363 : decode cX48_hazards 363 = .ok (.invokevirtual 263, 3) := dk_182 1 7 (dk_at dksX48_hazards_15 19 rfl rfl)
theorem dX48_hazards_366 : decode cX48_hazards 366 = .ok (.ifCond .eq 30, 3) := dk_153 0 30 (dk_at dksX48_hazards_16 0 rfl rfl)
theorem dX48_hazards_369 : decode cX48_hazards 369 = .ok (.aload_n 0, 1) := dk_42 (dk_at dksX48_hazards_16 3 rfl rfl)
theorem dX48_hazards_370 : decode cX48_hazards 370 = .ok (.getfield 167, 3) := dk_180 0 167 (dk_at dksX48_hazards_16 4 rfl rfl)
theorem dX48_hazards_373 : decode cX48_hazards 373 = .ok (.ifCond .ge 21, 3) := dk_156 0 21 (dk_at dksX48_hazards_16 7 rfl rfl)
theorem dX48_hazards_376 : decode cX48_hazards 376 = .ok (.aload_n 0, 1) := dk_42 (dk_at dksX48_hazards_16 10 rfl rfl)
theorem dX48_hazards_377 : decode cX48_hazards 377 = .ok (.getfield 28, 3) := dk_180 0 28 (dk_at dksX48_hazards_16 11 rfl rfl)
theorem dX48_hazards_380 : decode cX48_hazards 380 = .ok (.aload_n 0, 1) := dk_42 (dk_at dksX48_hazards_16 14 rfl rfl)
theorem dX48_hazards_381 : decode cX48_hazards 381 = .ok (.getfield 99, 3) := dk_180 0 99 (dk_at dksX48_hazards_16 15 rfl rfl)
theorem dX48_hazards_384 : decode cX48_hazards 384 = .ok (.iconst 0, 1) := dk_3 (dk_at dksX48_hazards_16 18 rfl rfl)
theorem dX48_hazards_385 : decode cX48_hazards 385 = .ok (.laload, 1) := dk_47 (dk_at dksX48_hazards_16 19 rfl rfl)
theorem dX48_hazards_386 : decode cX48_hazards 386 = .ok (.l2i, 1) := dk_136 (dk_at dksX48_hazards_16 20 rfl rfl)
theorem dX48_hazards_387 : decode cX48_hazards 387 = .ok (.invokevirtual 614, 3) := dk_182 2 102 (dk_at dksX48_hazards_16 21 rfl rfl)
theorem dX48_hazards_390 : decode cX48_hazards 390 = .ok (.i2l, 1) := dk_133 (dk_at dksX48_hazards_17 0 rfl rfl)
theorem dX48_hazards_391 : decode cX48_hazards 391 = .ok (.goto 4, 3) := dk_167 0 4 (dk_at dksX48_hazards_17 1 rfl rfl)
theorem dX48_hazards_394 : decode cX48_hazards 394 = .ok (.lconst 0, 1) := dk_9 (dk_at dksX48_hazards_17 4 rfl rfl)
theorem dX48_hazards_395 : decode cX48_hazards 395 = .ok (.lreturn, 1) := dk_173 (dk_at dksX48_hazards_17 5 rfl rfl)
theorem dX48_hazards_396 : decode cX48_hazards 396 = .ok (.aload_n 0, 1) := dk_42 (dk_at dksX48_hazards_17 6 rfl rfl)
theorem dX48_hazards_397 : decode cX48_hazards 397 = .ok (.ldc_w 616, 3) := dk_19 2 104 (dk_at dksX48_hazards_17 7 rfl rfl)
theorem dX48_hazards_400 : decode cX48_hazards 400 = .ok (.ldc_w 272, 3) := dk_19 1 16 (dk_at dksX48_hazards_17 10 rfl rfl)
theorem dX48_hazards_403 : decode cX48_hazards 403 = .ok (.invokevirtual 263, 3) := dk_182 1 7 (dk_at dksX48_hazards_17 13 rfl rfl)
theorem dX48_hazards_406 : decode cX48_hazards 406 = .ok (.ifCond .eq 23, 3) := dk_153 0 23 (dk_at dksX48_hazards_17 16 rfl rfl)
theorem dX48_hazards_409 : decode cX48_hazards 409 = .ok (.aload_n 0, 1) := dk_42 (dk_at dksX48_hazards_17 19 rfl rfl)
theorem dX48_hazards_410 : decode cX48_hazards 410 = .ok (.getfield 167, 3) := dk_180 0 167 (dk_at dksX48_hazards_17 20 rfl rfl)
theorem dX48_hazards_413 : decode cX48_hazards 413 = .ok (.ifCond .ge 14, 3) := dk_156 0 14 (dk_at dksX48_hazards_18 0 rfl rfl)
theorem dX48_hazards_416 : decode cX48_hazards 416 = .ok (.aload_n 0, 1) := dk_42 (dk_at dksX48_hazards_18 3 rfl rfl)
theorem dX48_hazards_417 : decode cX48_hazards 417 = .ok (.getfield 28, 3) := dk_180 0 28 (dk_at dksX48_hazards_18 4 rfl rfl)
theorem dX48_hazards_420 : decode cX48_hazards 420 = .ok (.invokevirtual 390, 3) := dk_182 1 134 (dk_at dksX48_hazards_18 7 rfl rfl)
theorem dX48_hazards_423 : decode cX48_hazards 423 = .ok (.i2l, 1) := dk_133 (dk_at dksX48_hazards_18 10 rfl rfl)
theorem dX48_hazards_424 : decode cX48_hazards 424 = .ok (.goto 4, 3) := dk_167 0 4 (dk_at dksX48_hazards_18 11 rfl rfl)
theorem dX48_hazards_427 : decode cX48_hazards 427 = .ok (.lconst 0, 1) := dk_9 (dk_at dksX48_hazards_18 14 rfl rfl)
theorem dX48_hazards_428 : decode cX48_hazards 428 = .ok (.lreturn, 1) := dk_173 (dk_at dksX48_hazards_18 15 rfl rfl)
theorem dX48_hazards_429 : decode cX48_hazards 429 = .ok (.aload_n 0, 1) := dk_42 (dk_at dksX48_hazards_18 16 rfl rfl)
theorem dX48_hazards_430 : decode cX48_hazards 430 = .ok (.ldc_w 617, 3) := dk_19 2 105 (dk_at dksX48_hazards_18 17 rfl rfl)
theorem dX48_hazards_433 : decode cX48_hazards 433 = .ok (.ldc_w 292, 3) := dk_19 1 36 (dk_at dksX48_hazards_18 20 rfl rfl)
theorem dX48_hazards_436 : decode cX48_hazards 436 = .ok (.invokevirtual 263, 3) := dk_182 1 7 (dk_at dksX48_hazards_19 0 rfl rfl)
theorem dX48_hazards_439 : decode cX48_hazards 439 = .ok (.ifCond .eq 37, 3) := dk_153 0 37 (dk_at dksX48_hazards_19 3 rfl rfl)
theorem dX48_hazards_442 : decode cX48_hazards 442 = .ok (.aload_n 0, 1) := dk_42 (dk_at dksX48_hazards_19 6 rfl rfl)
theorem dX48_hazards_443 : decode cX48_hazards 443 = .ok (.getfield 167, 3) := dk_180 0 167 (dk_at dksX48_hazards_19 7 rfl rfl)
theorem dX48_hazards_446 : decode cX48_hazards 446 = .ok (.ifCond .ge 28, 3) := dk_156 0 28 (dk_at dksX48_hazards_19 10 rfl rfl)
theorem dX48_hazards_449 : decode cX48_hazards 449 = .ok (.aload_n 0, 1) := dk_42 (dk_at dksX48_hazards_19 13 rfl rfl)
theorem dX48_hazards_450 : decode cX48_hazards 450 = .ok (.getfield 28, 3) := dk_180 0 28 (dk_at dksX48_hazards_19 14 rfl rfl)
theorem dX48_hazards_453 : decode cX48_hazards 453 = .ok (.aload_n 0, 1) := dk_42 (dk_at dksX48_hazards_19 17 rfl rfl)
theorem dX48_hazards_454 : decode cX48_hazards 454 = .ok (.getfield 99, 3) := dk_180 0 99 (dk_at dksX48_hazards_19 18 rfl rfl)
theorem dX48_hazards_457 : decode cX48_hazards 457 = .ok (.iconst 0, 1) := dk_3 (dk_at dksX48_hazards_19 21 rfl rfl)
theorem dX48_hazards_458 : decode cX48_hazards 458 = .ok (.laload, 1) := dk_47 (dk_at dksX48_hazards_19 22 rfl rfl)
theorem dX48_hazards_459 : decode cX48_hazards 459 = .ok (.l2i, 1) := dk_136 (dk_at dksX48_hazards_19 23 rfl rfl)
theorem dX48_hazards_460 : decode cX48_hazards 460 = .ok (.aload_n 0, 1) := dk_42 (dk_at dksX48_hazards_20 0 rfl rfl)
theorem dX48_hazards_461 : decode cX48_hazards 461 = .ok (.getfield 99, 3) := dk_180 0 99 (dk_at dksX48_hazards_20 1 rfl rfl)
theorem dX48_hazards_464 : decode cX48_hazards 464 = .ok (.iconst 1, 1) := dk_4 (dk_at dksX48_hazards_20 4 rfl rfl)
theorem dX48_hazards_465 : decode cX48_hazards 465 = .ok (.laload, 1) := dk_47 (dk_at dksX48_hazards_20 5 rfl rfl)
theorem dX48_hazards_466 : decode cX48_hazards 466 = .ok (.l2i, 1) := dk_136 (dk_at dksX48_hazards_20 6 rfl rfl)
theorem dX48_hazards_467 : decode cX48_hazards 467 = .ok (.invokevirtual 619, 3) := dk_182 2 107 (dk_at dksX48_hazards_20 7 rfl rfl)
theorem dX48_hazards_470 : decode cX48_hazards 470 = .ok (.i2l, 1) := dk_133 (dk_at dksX48_hazards_20 10 rfl rfl)
theorem dX48_hazards_471 : decode cX48_hazards 471 = .ok (.goto 4, 3) := dk_167 0 4 (dk_at dksX48_hazards_20 11 rfl rfl)
theorem dX48_hazards_474 : decode cX48_hazards 474 = .ok (.lconst 0, 1) := dk_9 (dk_at dksX48_hazards_20 14 rfl rfl)
theorem dX48_hazards_475 : decode cX48_hazards 475 = .ok (.lreturn, 1) := dk_173 (dk_at dksX48_hazards_20 15 rfl rfl)
theorem dX48_hazards_476 : decode cX48_hazards 476 = .ok (.aload_n 0, 1) := dk_42 (dk_at dksX48_hazards_20 16 rfl rfl)
theorem dX48_hazards_477 : decode cX48_hazards 477 = .ok (.ldc_w 621, 3) := dk_19 2 109 (dk_at dksX48_hazards_20 17 rfl rfl)
theorem dX48_hazards_480 : decode cX48_hazards 480 = .ok (.ldc_w 278, 3) := dk_19 1 22 (dk_at dksX48_hazards_20 20 rfl rfl)
theorem dX48_hazards_483 : decode cX48_hazards 483 = .ok (.invokevirtual 263, 3) := dk_182 1 7 (dk_at dksX48_hazards_21 0 rfl rfl)
theorem dX48_hazards_486 : decode cX48_hazards 486 = .ok (.ifCond .eq 30, 3) := dk_153 0 30 (dk_at dksX48_hazards_21 3 rfl rfl)
theorem dX48_hazards_489 : decode cX48_hazards 489 = .ok (.aload_n 0, 1) := dk_42 (dk_at dksX48_hazards_21 6 rfl rfl)
theorem dX48_hazards_490 : decode cX48_hazards 490 = .ok (.getfield 167, 3) := dk_180 0 167 (dk_at dksX48_hazards_21 7 rfl rfl)
theorem dX48_hazards_493 : decode cX48_hazards 493 = .ok (.ifCond .ge 21, 3) := dk_156 0 21 (dk_at dksX48_hazards_21 10 rfl rfl)
theorem dX48_hazards_496 : decode cX48_hazards 496 = .ok (.aload_n 0, 1) := dk_42 (dk_at dksX48_hazards_21 13 rfl rfl)
theorem dX48_hazards_497 : decode cX48_hazards 497 = .ok (.getfield 28, 3) := dk_180 0 28 (dk_at dksX48_hazards_21 14 rfl rfl)
theorem dX48_hazards_500 : decode cX48_hazards 500 = .ok (.aload_n 0, 1) := dk_42 (dk_at dksX48_hazards_21 17 rfl rfl)
theorem dX48_hazards_501 : decode cX48_hazards 501 = .ok (.getfield 99, 3) := dk_180 0 99 (dk_at dksX48_hazards_21 18 rfl rfl)
theorem dX48_hazards_504 : decode cX48_hazards 504 = .ok (.iconst 0, 1) := dk_3 (dk_at dksX48_hazards_21 21 rfl rfl)
theorem dX48_hazards_505 : decode cX48_hazards 505 = .ok (.laload, 1) := dk_47 (dk_at dksX48_hazards_21 22 rfl rfl)
theorem dX48_hazards_506 : decode cX48_hazards 506 = .ok (.l2i, 1) := dk_136 (dk_at dksX48_hazards_21 23 rfl rfl)
theorem dX48_hazards_507 : decode cX48_hazards 507 = .ok (.invokevirtual 623, 3) := dk_182 2 111 (dk_at dksX48_hazards_22 0 rfl rfl)
theorem dX48_hazards_510 : decode cX48_hazards 510 = .ok (.i2l, 1) := dk_133 (dk_at dksX48_hazards_22 3 rfl rfl)
theorem dX48_hazards_511 : decode cX48_hazards 511 = .ok (.goto 4, 3) := dk_167 0 4 (dk_at dksX48_hazards_22 4 rfl rfl)
theorem dX48_hazards_514 : decode cX48_hazards 514 = .ok (.lconst 0, 1) := dk_9 (dk_at dksX48_hazards_22 7 rfl rfl)
theorem dX48_hazards_515 : decode cX48_hazards 515 = .ok (.lreturn, 1) := dk_173 (dk_at dksX48_hazards_22 8 rfl rfl)
theorem dX48_hazards_516 : decode cX48_hazards 516 = .ok (.aload_n 0, 1) := dk_42 (dk_at dksX48_hazards_22 9 rfl rfl)
theorem dX48_hazards_517 : decode cX48_hazards 517 = .ok (.ldc_w 625, 3) := dk_19 2 113 (dk_at dksX48_hazards_22 10 rfl rfl)
theorem dX48_hazards_520 : decode cX48_hazards 520 = .ok (.ldc_w 498, 3) := dk_19 1 242 (dk_at dksX48_hazards_22 13 rfl rfl)
theorem dX48_hazards_523 : decode cX48_hazards 523 = .ok (.invokevirtual 263, 3) := dk_182 1 7 (dk_at dksX48_hazards_22 16 rfl rfl)
theorem dX48_hazards_526 : decode cX48_hazards 526 = .ok (.ifCond .eq 44, 3) := dk_153 0 44 (dk_at dksX48_hazards_22 19 rfl rfl)
theorem dX48_hazards_529 : decode cX48_hazards 529 = .ok (.aload_n 0, 1) := dk_42 (dk_at dksX48_hazards_22 22 rfl rfl)
theorem dX48_hazards_530 : decode cX48_hazards 530 = .ok (.getfield 167, 3) := dk_180 0 167 (dk_at dksX48_hazards_23 0 rfl rfl)
theorem dX48_hazards_533 : decode cX48_hazards 533 = .ok (.ifCond .ge 35, 3) := dk_156 0 35 (dk_at dksX48_hazards_23 3 rfl rfl)
theorem dX48_hazards_536 : decode cX48_hazards 536 = .ok (.aload_n 0, 1) := dk_42 (dk_at dksX48_hazards_23 6 rfl rfl)
theorem dX48_hazards_537 : decode cX48_hazards 537 = .ok (.getfield 28, 3) := dk_180 0 28 (dk_at dksX48_hazards_23 7 rfl rfl)
theorem dX48_hazards_540 : decode cX48_hazards 540 = .ok (.aload_n 0, 1) := dk_42 (dk_at dksX48_hazards_23 10 rfl rfl)
theorem dX48_hazards_541 : decode cX48_hazards 541 = .ok (.getfield 99, 3) := dk_180 0 99 (dk_at dksX48_hazards_23 11 rfl rfl)
theorem dX48_hazards_544 : decode cX48_hazards 544 = .ok (.iconst 0, 1) := dk_3 (dk_at dksX48_hazards_23 14 rfl rfl)
theorem dX48_hazards_545 : decode cX48_hazards 545 = .ok (.laload, 1) := dk_47 (dk_at dksX48_hazards_23 15 rfl rfl)
theorem dX48_hazards_546 : decode cX48_hazards 546 = .ok (.l2i, 1) := dk_136 (dk_at dksX48_hazards_23 16 rfl rfl)
theorem dX48_hazards_547 : decode cX48_hazards 547 = .ok (.aload_n 0, 1) := dk_42 (dk_at dksX48_hazards_23 17 rfl rfl)
theorem dX48_hazards_548 : decode cX48_hazards 548 = .ok (.getfield 99, 3) := dk_180 0 99 (dk_at dksX48_hazards_23 18 rfl rfl)
theorem dX48_hazards_551 : decode cX48_hazards 551 = .ok (.iconst 1, 1) := dk_4 (dk_at dksX48_hazards_23 21 rfl rfl)
theorem dX48_hazards_552 : decode cX48_hazards 552 = .ok (.laload, 1) := dk_47 (dk_at dksX48_hazards_23 22 rfl rfl)
theorem dX48_hazards_553 : decode cX48_hazards 553 = .ok (.l2i, 1) := dk_136 (dk_at dksX48_hazards_23 23 rfl rfl)
theorem dX48_hazards_554 : decode cX48_hazards 554 = .ok (.aload_n 0, 1) := dk_42 (dk_at dksX48_hazards_24 0 rfl rfl)
theorem dX48_hazards_555 : decode cX48_hazards 555 = .ok (.getfield 99, 3) := dk_180 0 99 (dk_at dksX48_hazards_24 1 rfl rfl)
theorem dX48_hazards_558 : decode cX48_hazards 558 = .ok (.iconst 2, 1) := dk_5 (dk_at dksX48_hazards_24 4 rfl rfl)
theorem dX48_hazards_559 : decode cX48_hazards 559 = .ok (.laload, 1) := dk_47 (dk_at dksX48_hazards_24 5 rfl rfl)
theorem dX48_hazards_560 : decode cX48_hazards 560 = .ok (.l2i, 1) := dk_136 (dk_at dksX48_hazards_24 6 rfl rfl)
theorem dX48_hazards_561 : decode cX48_hazards 561 = .ok (.invokevirtual 627, 3) := dk_182 2 115 (dk_at dksX48_hazards_24 7 rfl rfl)
theorem dX48_hazards_564 : decode cX48_hazards 564 = .ok (.i2l, 1) := dk_133 (dk_at dksX48_hazards_24 10 rfl rfl)
theorem dX48_hazards_565 : decode cX48_hazards 565 = .ok (.goto 4, 3) := dk_167 0 4 (dk_at dksX48_hazards_24 11 rfl rfl)
theorem dX48_hazards_568 : decode cX48_hazards 568 = .ok (.lconst 0, 1) := dk_9 (dk_at dksX48_hazards_24 14 rfl rfl)
theorem dX48_hazards_569 : decode cX48_hazards 569 = .ok (.lreturn, 1) := dk_173 (dk_at dksX48_hazards_24 15 rfl rfl)
theorem dX48_hazards_570 : decode cX48_hazards 570 = .ok (.aload_n 0, 1) := dk_42 (dk_at dksX48_hazards_24 16 rfl rfl)
theorem dX48_hazards_571 : decode cX48_hazards 571 = .ok (.ldc_w 630, 3) := dk_19 2 118 (dk_at dksX48_hazards_24 17 rfl rfl)
theorem dX48_hazards_574 : decode cX48_hazards 574 = .ok (.ldc_w 278, 3) := dk_19 1 22 (dk_at dksX48_hazards_24 20 rfl rfl)
theorem dX48_hazards_577 : decode cX48_hazards 577 = .ok (.invokevirtual 263, 3) := dk_182 1 7 (dk_at dksX48_hazards_25 0 rfl rfl)
theorem dX48_hazards_580 : decode cX48_hazards 580 = .ok (.ifCond .eq 29, 3) := dk_153 0 29 (dk_at dksX48_hazards_25 3 rfl rfl)
theorem dX48_hazards_583 : decode cX48_hazards 583 = .ok (.aload_n 0, 1) := dk_42 (dk_at dksX48_hazards_25 6 rfl rfl)
theorem dX48_hazards_584 : decode cX48_hazards 584 = .ok (.getfield 167, 3) := dk_180 0 167 (dk_at dksX48_hazards_25 7 rfl rfl)
theorem dX48_hazards_587 : decode cX48_hazards 587 = .ok (.ifCond .ge 20, 3) := dk_156 0 20 (dk_at dksX48_hazards_25 10 rfl rfl)
theorem dX48_hazards_590 : decode cX48_hazards 590 = .ok (.aload_n 0, 1) := dk_42 (dk_at dksX48_hazards_25 13 rfl rfl)
theorem dX48_hazards_591 : decode cX48_hazards 591 = .ok (.getfield 28, 3) := dk_180 0 28 (dk_at dksX48_hazards_25 14 rfl rfl)
theorem dX48_hazards_594 : decode cX48_hazards 594 = .ok (.aload_n 0, 1) := dk_42 (dk_at dksX48_hazards_25 17 rfl rfl)
theorem dX48_hazards_595 : decode cX48_hazards 595 = .ok (.getfield 99, 3) := dk_180 0 99 (dk_at dksX48_hazards_25 18 rfl rfl)
theorem dX48_hazards_598 : decode cX48_hazards 598 = .ok (.iconst 0, 1) := dk_3 (dk_at dksX48_hazards_25 21 rfl rfl)
theorem dX48_hazards_599 : decode cX48_hazards 599 = .ok (.laload, 1) := dk_47 (dk_at dksX48_hazards_25 22 rfl rfl)
theorem dX48_hazards_600 : decode cX48_hazards 600 = .ok (.l2i, 1) := dk_136 (dk_at dksX48_hazards_25 23 rfl rfl)
theorem dX48_hazards_601 : decode cX48_hazards 601 = .ok (.invokevirtual 632, 3) := dk_182 2 120 (dk_at dksX48_hazards_26 0 rfl rfl)
theorem dX48_hazards_604 : decode cX48_hazards 604 = .ok (.goto 4, 3) := dk_167 0 4 (dk_at dksX48_hazards_26 3 rfl rfl)
theorem dX48_hazards_607 : decode cX48_hazards 607 = .ok (.lconst 0, 1) := dk_9 (dk_at dksX48_hazards_26 6 rfl rfl)
theorem dX48_hazards_608 : decode cX48_hazards 608 = .ok (.lreturn, 1) := dk_173 (dk_at dksX48_hazards_26 7 rfl rfl)
theorem dX48_hazards_609 : decode cX48_hazards 609 = .ok (.aload_n 0, 1) := dk_42 (dk_at dksX48_hazards_26 8 rfl rfl)
theorem dX48_hazards_610 : decode cX48_hazards 610 = .ok (.ldc_w 634, 3) := dk_19 2 122 (dk_at dksX48_hazards_26 9 rfl rfl)
theorem dX48_hazards_613 : decode cX48_hazards 613 = .ok (.ldc_w 498, 3) := dk_19 1 242 (dk_at dksX48_hazards_26 12 rfl rfl)
theorem dX48_hazards_616 : decode cX48_hazards 616 = .ok (.invokevirtual 263, 3) := dk_182 1 7 (dk_at dksX48_hazards_26 15 rfl rfl)
theorem dX48_hazards_619 : decode cX48_hazards 619 = .ok (.ifCond .eq 43, 3) := dk_153 0 43 (dk_at dksX48_hazards_26 18 rfl rfl)
theorem dX48_hazards_622 : decode cX48_hazards 622 = .ok (.aload_n 0, 1) := dk_42 (dk_at dksX48_hazards_26 21 rfl rfl)
theorem dX48_hazards_623 : decode cX48_hazards 623 = .ok (.getfield 167, 3) := dk_180 0 167 (dk_at dksX48_hazards_27 0 rfl rfl)
theorem dX48_hazards_626 : decode cX48_hazards 626 = .ok (.ifCond .ge 34, 3) := dk_156 0 34 (dk_at dksX48_hazards_27 3 rfl rfl)
theorem dX48_hazards_629 : decode cX48_hazards 629 = .ok (.aload_n 0, 1) := dk_42 (dk_at dksX48_hazards_27 6 rfl rfl)
theorem dX48_hazards_630 : decode cX48_hazards 630 = .ok (.getfield 28, 3) := dk_180 0 28 (dk_at dksX48_hazards_27 7 rfl rfl)
theorem dX48_hazards_633 : decode cX48_hazards 633 = .ok (.aload_n 0, 1) := dk_42 (dk_at dksX48_hazards_27 10 rfl rfl)
theorem dX48_hazards_634 : decode cX48_hazards 634 = .ok (.getfield 99, 3) := dk_180 0 99 (dk_at dksX48_hazards_27 11 rfl rfl)
theorem dX48_hazards_637 : decode cX48_hazards 637 = .ok (.iconst 0, 1) := dk_3 (dk_at dksX48_hazards_27 14 rfl rfl)
theorem dX48_hazards_638 : decode cX48_hazards 638 = .ok (.laload, 1) := dk_47 (dk_at dksX48_hazards_27 15 rfl rfl)
theorem dX48_hazards_639 : decode cX48_hazards 639 = .ok (.l2i, 1) := dk_136 (dk_at dksX48_hazards_27 16 rfl rfl)
theorem dX48_hazards_640 : decode cX48_hazards 640 = .ok (.aload_n 0, 1) := dk_42 (dk_at dksX48_hazards_27 17 rfl rfl)
theorem dX48_hazards_641 : decode cX48_hazards 641 = .ok (.getfield 99, 3) := dk_180 0 99 (dk_at dksX48_hazards_27 18 rfl rfl)
theorem dX48_hazards_644 : decode cX48_hazards 644 = .ok (.iconst 1, 1) := dk_4 (dk_at dksX48_hazards_27 21 rfl rfl)
theorem dX48_hazards_645 : decode cX48_hazards 645 = .ok (.laload, 1) := dk_47 (dk_at dksX48_hazards_27 22 rfl rfl)
theorem dX48_hazards_646 : decode cX48_hazards 646 = .ok (.l2i, 1) := dk_136 (dk_at dksX48_hazards_27 23 rfl rfl)
theorem dX48_hazards_647 : decode cX48_hazards 647 = .ok (.aload_n 0, 1) := dk_42 (dk_at dksX48_hazards_28 0 rfl rfl)
theorem dX48_hazards_648 : decode cX48_hazards 648 = .ok (.getfield 99, 3) := dk_180 0 99 (dk_at dksX48_hazards_28 1 rfl rfl)
theorem dX48_hazards_651 : decode cX48_hazards 651 = .ok (.iconst 2, 1) := dk_5 (dk_at dksX48_hazards_28 4 rfl rfl)
theorem dX48_hazards_652 : decode cX48_hazards 652 = .ok (.laload, 1) := dk_47 (dk_at dksX48_hazards_28 5 rfl rfl)
theorem dX48_hazards_653 : decode cX48_hazards 653 = .ok (.l2i, 1) := dk_136 (dk_at dksX48_hazards_28 6 rfl rfl)
theorem dX48_hazards_654 : decode cX48_hazards 654 = .ok (.invokevirtual 636, 3) := dk_182 2 124 (dk_at dksX48_hazards_28 7 rfl rfl)
theorem dX48_hazards_657 : decode cX48_hazards 657 = .ok (.goto 4, 3) := dk_167 0 4 (dk_at dksX48_hazards_28 10 rfl rfl)
theorem dX48_hazards_660 : decode cX48_hazards 660 = .ok (.lconst 0, 1) := dk_9 (dk_at dksX48_hazards_28 13 rfl rfl)
theorem dX48_hazards_661 : decode cX48_hazards 661 = .ok (.lreturn, 1) := dk_173 (dk_at dksX48_hazards_28 14 rfl rfl)
theorem dX48_hazards_662 : decode cX48_hazards 662 = .ok (.aload_n 0, 1) := dk_42 (dk_at dksX48_hazards_28 15 rfl rfl)
theorem dX48_hazards_663 : decode cX48_hazards 663 = .ok (.ldc_w 638, 3) := dk_19 2 126 (dk_at dksX48_hazards_28 16 rfl rfl)
theorem dX48_hazards_666 : decode cX48_hazards 666 = .ok (.ldc_w 292, 3) := dk_19 1 36 (dk_at dksX48_hazards_28 19 rfl rfl)
theorem dX48_hazards_669 : decode cX48_hazards 669 = .ok (.invokevirtual 263, 3) := dk_182 1 7 (dk_at dksX48_hazards_29 0 rfl rfl)
theorem dX48_hazards_672 : decode cX48_hazards 672 = .ok (.ifCond .eq 37, 3) := dk_153 0 37 (dk_at dksX48_hazards_29 3 rfl rfl)
theorem dX48_hazards_675 : decode cX48_hazards 675 = .ok (.aload_n 0, 1) := dk_42 (dk_at dksX48_hazards_29 6 rfl rfl)
theorem dX48_hazards_676 : decode cX48_hazards 676 = .ok (.getfield 167, 3) := dk_180 0 167 (dk_at dksX48_hazards_29 7 rfl rfl)
theorem dX48_hazards_679 : decode cX48_hazards 679 = .ok (.ifCond .ge 28, 3) := dk_156 0 28 (dk_at dksX48_hazards_29 10 rfl rfl)
theorem dX48_hazards_682 : decode cX48_hazards 682 = .ok (.aload_n 0, 1) := dk_42 (dk_at dksX48_hazards_29 13 rfl rfl)
theorem dX48_hazards_683 : decode cX48_hazards 683 = .ok (.getfield 28, 3) := dk_180 0 28 (dk_at dksX48_hazards_29 14 rfl rfl)
theorem dX48_hazards_686 : decode cX48_hazards 686 = .ok (.aload_n 0, 1) := dk_42 (dk_at dksX48_hazards_29 17 rfl rfl)
theorem dX48_hazards_687 : decode cX48_hazards 687 = .ok (.getfield 99, 3) := dk_180 0 99 (dk_at dksX48_hazards_29 18 rfl rfl)
theorem dX48_hazards_690 : decode cX48_hazards 690 = .ok (.iconst 0, 1) := dk_3 (dk_at dksX48_hazards_29 21 rfl rfl)
theorem dX48_hazards_691 : decode cX48_hazards 691 = .ok (.laload, 1) := dk_47 (dk_at dksX48_hazards_29 22 rfl rfl)
theorem dX48_hazards_692 : decode cX48_hazards 692 = .ok (.l2i, 1) := dk_136 (dk_at dksX48_hazards_29 23 rfl rfl)
theorem dX48_hazards_693 : decode cX48_hazards 693 = .ok (.aload_n 0, 1) := dk_42 (dk_at dksX48_hazards_30 0 rfl rfl)
theorem dX48_hazards_694 : decode cX48_hazards 694 = .ok (.getfield 99, 3) := dk_180 0 99 (dk_at dksX48_hazards_30 1 rfl rfl)
theorem dX48_hazards_697 : decode cX48_hazards 697 = .ok (.iconst 1, 1) := dk_4 (dk_at dksX48_hazards_30 4 rfl rfl)
theorem dX48_hazards_698 : decode cX48_hazards 698 = .ok (.laload, 1) := dk_47 (dk_at dksX48_hazards_30 5 rfl rfl)
theorem dX48_hazards_699 : decode cX48_hazards 699 = .ok (.l2i, 1) := dk_136 (dk_at dksX48_hazards_30 6 rfl rfl)
theorem dX48_hazards_700 : decode cX48_hazards 700 = .ok (.invokevirtual 640, 3) := dk_182 2 128 (dk_at dksX48_hazards_30 7 rfl rfl)
theorem dX48_hazards_703 : decode cX48_hazards 703 = .ok (.i2l, 1) := dk_133 (dk_at dksX48_hazards_30 10 rfl rfl)
theorem dX48_hazards_704 : decode cX48_hazards 704 = .ok (.goto 4, 3) := dk_167 0 4 (dk_at dksX48_hazards_30 11 rfl rfl)
theorem dX48_hazards_707 : decode cX48_hazards 707 = .ok (.lconst 0, 1) := dk_9 (dk_at dksX48_hazards_30 14 rfl rfl)
theorem dX48_hazards_708 : decode cX48_hazards 708 = .ok (.lreturn, 1) := dk_173 (dk_at dksX48_hazards_30 15 rfl rfl)
theorem dX48_hazards_709 : decode cX48_hazards 709 = .ok (.aload_n 0, 1) := dk_42 (dk_at dksX48_hazards_30 16 rfl rfl)
theorem dX48_hazards_710 : decode cX48_hazards 710 = .ok (.ldc_w 642, 3) := dk_19 2 130 (dk_at dksX48_hazards_30 17 rfl rfl)
theorem dX48_hazards_713 : decode cX48_hazards 713 = .ok (.ldc_w 278, 3) := dk_19 1 22 (dk_at dksX48_hazards_30 20 rfl rfl)
theorem dX48_hazards_716 : decode cX48_hazards 716 = .ok (.invokevirtual 263, 3) := dk_182 1 7 (dk_at dksX48_hazards_31 0 rfl rfl)
theorem dX48_hazards_719 : decode cX48_hazards 719 = .ok (.ifCond .eq 30, 3) := dk_153 0 30 (dk_at dksX48_hazards_31 3 rfl rfl)
theorem dX48_hazards_722 : decode cX48_hazards 722 = .ok (.aload_n 0, 1) := dk_42 (dk_at dksX48_hazards_31 6 rfl rfl)
theorem dX48_hazards_723 : decode cX48_hazards 723 = .ok (.getfield 167, 3) := dk_180 0 167 (dk_at dksX48_hazards_31 7 rfl rfl)
theorem dX48_hazards_726 : decode cX48_hazards 726 = .ok (.ifCond .ge 21, 3) := dk_156 0 21 (dk_at dksX48_hazards_31 10 rfl rfl)
theorem dX48_hazards_729 : decode cX48_hazards 729 = .ok (.aload_n 0, 1) := dk_42 (dk_at dksX48_hazards_31 13 rfl rfl)
theorem dX48_hazards_730 : decode cX48_hazards 730 = .ok (.getfield 28, 3) := dk_180 0 28 (dk_at dksX48_hazards_31 14 rfl rfl)
theorem dX48_hazards_733 : decode cX48_hazards 733 = .ok (.aload_n 0, 1) := dk_42 (dk_at dksX48_hazards_31 17 rfl rfl)
theorem dX48_hazards_734 : decode cX48_hazards 734 = .ok (.getfield 99, 3) := dk_180 0 99 (dk_at dksX48_hazards_31 18 rfl rfl)
theorem dX48_hazards_737 : decode cX48_hazards 737 = .ok (.iconst 0, 1) := dk_3 (dk_at dksX48_hazards_31 21 rfl rfl)
theorem dX48_hazards_738 : decode cX48_hazards 738 = .ok (.laload, 1) := dk_47 (dk_at dksX48_hazards_31 22 rfl rfl)
theorem dX48_hazards_739 : decode cX48_hazards 739 = .ok (.l2i, 1) := dk_136 (dk_at dksX48_hazards_31 23 rfl rfl)
theorem dX48_hazards_740 : decode cX48_hazards 740 = .ok (.invokevirtual 644, 3) := dk_182 2 132 (dk_at dksX48_hazards_32 0 rfl rfl)
theorem dX48_hazards_743 : decode cX48_hazards 743 = .ok (.i2l, 1) := dk_133 (dk_at dksX48_hazards_32 3 rfl rfl)
theorem dX48_hazards_744 : decode cX48_hazards 744 = .ok (.goto 4, 3) := dk_167 0 4 (dk_at dksX48_hazards_32 4 rfl rfl)
theorem dX48_hazards_747 : decode cX48_hazards 747 = .ok (.lconst 0, 1) := dk_9 (dk_at dksX48_hazards_32 7 rfl rfl)
theorem dX48_hazards_748 : decode cX48_hazards 748 = .ok (.lreturn, 1) := dk_173 (dk_at dksX48_hazards_32 8 rfl rfl)
theorem dX48_hazards_749 : decode cX48_hazards 749 = .ok (.aload_n 0, 1) := dk_42 (dk_at dksX48_hazards_32 9 rfl rfl)
theorem dX48_hazards_750 : decode cX48_hazards 750 = .ok (.invokevirtual 332, 3) := dk_182 1 76 (dk_at dksX48_hazards_32 10 rfl rfl)
theorem dX48_hazards_753 : decode cX48_hazards 753 = .ok (.lreturn, 1) := dk_173 (dk_at dksX48_hazards_32 13 rfl rfl)
abbrev cX48_hazardsRead : ByteArray := prog_56_method_24_code
def yX48_hazardsRead : MethodName := ⟨RX48, "hazardsRead", "()J"⟩
def dkwX48_hazardsRead_1 : List UInt8 := [17, 0, 255, 126, 182, 0, 247, 61, 132, 1, 1, 167, 255, 227, 42, 180, 0, 28, 182, 0, 251, 133, 173]
abbrev dktX48_hazardsRead_1 : List UInt8 := dkwX48_hazardsRead_1 ++ []
def dkwX48_hazardsRead_0 : List UInt8 := [42, 182, 0, 244, 60, 27, 42, 180, 0, 136, 162, 0, 27, 42, 180, 0, 28, 42, 180, 0, 76, 27, 51]
abbrev dktX48_hazardsRead_0 : List UInt8 := dkwX48_hazardsRead_0 ++ dktX48_hazardsRead_1
theorem dksX48_hazardsRead_0 : cX48_hazardsRead.data.toList.drop 0 = dktX48_hazardsRead_0 := by decide +kernel
theorem dksX48_hazardsRead_1 : cX48_hazardsRead.data.toList.drop 23 = dktX48_hazardsRead_1 := dk_seg dksX48_hazardsRead_0 23 rfl rfl
theorem dX48_hazardsRead_0 : decode cX48_hazardsRead 0 = .ok (.aload_n 0, 1) := dk_42 (dk_at dksX48_hazardsRead_0 0 rfl rfl)
theorem dX48_hazardsRead_1 : decode cX48_hazardsRead 1 = .ok (.invokevirtual 244, 3) := dk_182 0 244 (dk_at dksX48_hazardsRead_0 1 rfl rfl)
theorem dX48_hazardsRead_4 : decode cX48_hazardsRead 4 = .ok (.istore_n 1, 1) := dk_60 (dk_at dksX48_hazardsRead_0 4 rfl rfl)
theorem dX48_hazardsRead_5 : decode cX48_hazardsRead 5 = .ok (.iload_n 1, 1) := dk_27 (dk_at dksX48_hazardsRead_0 5 rfl rfl)
theorem dX48_hazardsRead_6 : decode cX48_hazardsRead 6 = .ok (.aload_n 0, 1) := dk_42 (dk_at dksX48_hazardsRead_0 6 rfl rfl)
theorem dX48_hazardsRead_7 : decode cX48_hazardsRead 7 = .ok (.getfield 136, 3) := dk_180 0 136 (dk_at dksX48_hazardsRead_0 7 rfl rfl)
theorem dX48_hazardsRead_10 : decode cX48_hazardsRead 10 = .ok (.if_icmp .ge 27, 3) := dk_162 0 27 (dk_at dksX48_hazardsRead_0 10 rfl rfl)
theorem dX48_hazardsRead_13 : decode cX48_hazardsRead 13 = .ok (.aload_n 0, 1) := dk_42 (dk_at dksX48_hazardsRead_0 13 rfl rfl)
theorem dX48_hazardsRead_14 : decode cX48_hazardsRead 14 = .ok (.getfield 28, 3) := dk_180 0 28 (dk_at dksX48_hazardsRead_0 14 rfl rfl)
theorem dX48_hazardsRead_17 : decode cX48_hazardsRead 17 = .ok (.aload_n 0, 1) := dk_42 (dk_at dksX48_hazardsRead_0 17 rfl rfl)
theorem dX48_hazardsRead_18 : decode cX48_hazardsRead 18 = .ok (.getfield 76, 3) := dk_180 0 76 (dk_at dksX48_hazardsRead_0 18 rfl rfl)
theorem dX48_hazardsRead_21 : decode cX48_hazardsRead 21 = .ok (.iload_n 1, 1) := dk_27 (dk_at dksX48_hazardsRead_0 21 rfl rfl)
theorem dX48_hazardsRead_22 : decode cX48_hazardsRead 22 = .ok (.baload, 1) := dk_51 (dk_at dksX48_hazardsRead_0 22 rfl rfl)
theorem dX48_hazardsRead_23 : decode cX48_hazardsRead 23 = .ok (.sipush 255, 3) := dk_17 0 255 (dk_at dksX48_hazardsRead_1 0 rfl rfl)
theorem dX48_hazardsRead_26 : decode cX48_hazardsRead 26 = .ok (.iand, 1) := dk_126 (dk_at dksX48_hazardsRead_1 3 rfl rfl)
theorem dX48_hazardsRead_27 : decode cX48_hazardsRead 27 = .ok (.invokevirtual 247, 3) := dk_182 0 247 (dk_at dksX48_hazardsRead_1 4 rfl rfl)
theorem dX48_hazardsRead_30 : decode cX48_hazardsRead 30 = .ok (.istore_n 2, 1) := dk_61 (dk_at dksX48_hazardsRead_1 7 rfl rfl)
theorem dX48_hazardsRead_31 : decode cX48_hazardsRead 31 = .ok (.iinc 1 1, 3) := dk_132 1 1 (dk_at dksX48_hazardsRead_1 8 rfl rfl)
theorem dX48_hazardsRead_34 : decode cX48_hazardsRead 34 = .ok (.goto (-29), 3) := dk_167 255 227 (dk_at dksX48_hazardsRead_1 11 rfl rfl)
theorem dX48_hazardsRead_37 : decode cX48_hazardsRead 37 = .ok (.aload_n 0, 1) := dk_42 (dk_at dksX48_hazardsRead_1 14 rfl rfl)
theorem dX48_hazardsRead_38 : decode cX48_hazardsRead 38 = .ok (.getfield 28, 3) := dk_180 0 28 (dk_at dksX48_hazardsRead_1 15 rfl rfl)
theorem dX48_hazardsRead_41 : decode cX48_hazardsRead 41 = .ok (.invokevirtual 251, 3) := dk_182 0 251 (dk_at dksX48_hazardsRead_1 18 rfl rfl)
theorem dX48_hazardsRead_44 : decode cX48_hazardsRead 44 = .ok (.i2l, 1) := dk_133 (dk_at dksX48_hazardsRead_1 21 rfl rfl)
theorem dX48_hazardsRead_45 : decode cX48_hazardsRead 45 = .ok (.lreturn, 1) := dk_173 (dk_at dksX48_hazardsRead_1 22 rfl rfl)
abbrev cX48_textBegin : ByteArray := prog_56_method_23_code
def yX48_textBegin : MethodName := ⟨RX48, "textBegin", "()I"⟩
def dkwX48_textBegin_1 : List UInt8 := [42, 180, 0, 136, 172]
abbrev dktX48_textBegin_1 : List UInt8 := dkwX48_textBegin_1 ++ []
def dkwX48_textBegin_0 : List UInt8 := [42, 180, 0, 96, 4, 46, 42, 180, 0, 136, 162, 0, 14, 42, 180, 0, 96, 4, 46, 4, 96, 167, 0, 7]
abbrev dktX48_textBegin_0 : List UInt8 := dkwX48_textBegin_0 ++ dktX48_textBegin_1
theorem dksX48_textBegin_0 : cX48_textBegin.data.toList.drop 0 = dktX48_textBegin_0 := by decide +kernel
theorem dksX48_textBegin_1 : cX48_textBegin.data.toList.drop 24 = dktX48_textBegin_1 := dk_seg dksX48_textBegin_0 24 rfl rfl
theorem dX48_textBegin_0 : decode cX48_textBegin 0 = .ok (.aload_n 0, 1) := dk_42 (dk_at dksX48_textBegin_0 0 rfl rfl)
theorem dX48_textBegin_1 : decode cX48_textBegin 1 = .ok (.getfield 96, 3) := dk_180 0 96 (dk_at dksX48_textBegin_0 1 rfl rfl)
theorem dX48_textBegin_4 : decode cX48_textBegin 4 = .ok (.iconst 1, 1) := dk_4 (dk_at dksX48_textBegin_0 4 rfl rfl)
theorem dX48_textBegin_5 : decode cX48_textBegin 5 = .ok (.iaload, 1) := dk_46 (dk_at dksX48_textBegin_0 5 rfl rfl)
theorem dX48_textBegin_6 : decode cX48_textBegin 6 = .ok (.aload_n 0, 1) := dk_42 (dk_at dksX48_textBegin_0 6 rfl rfl)
theorem dX48_textBegin_7 : decode cX48_textBegin 7 = .ok (.getfield 136, 3) := dk_180 0 136 (dk_at dksX48_textBegin_0 7 rfl rfl)
theorem dX48_textBegin_10 : decode cX48_textBegin 10 = .ok (.if_icmp .ge 14, 3) := dk_162 0 14 (dk_at dksX48_textBegin_0 10 rfl rfl)
theorem dX48_textBegin_13 : decode cX48_textBegin 13 = .ok (.aload_n 0, 1) := dk_42 (dk_at dksX48_textBegin_0 13 rfl rfl)
theorem dX48_textBegin_14 : decode cX48_textBegin 14 = .ok (.getfield 96, 3) := dk_180 0 96 (dk_at dksX48_textBegin_0 14 rfl rfl)
theorem dX48_textBegin_17 : decode cX48_textBegin 17 = .ok (.iconst 1, 1) := dk_4 (dk_at dksX48_textBegin_0 17 rfl rfl)
theorem dX48_textBegin_18 : decode cX48_textBegin 18 = .ok (.iaload, 1) := dk_46 (dk_at dksX48_textBegin_0 18 rfl rfl)
theorem dX48_textBegin_19 : decode cX48_textBegin 19 = .ok (.iconst 1, 1) := dk_4 (dk_at dksX48_textBegin_0 19 rfl rfl)
theorem dX48_textBegin_20 : decode cX48_textBegin 20 = .ok (.iadd, 1) := dk_96 (dk_at dksX48_textBegin_0 20 rfl rfl)
theorem dX48_textBegin_21 : decode cX48_textBegin 21 = .ok (.goto 7, 3) := dk_167 0 7 (dk_at dksX48_textBegin_0 21 rfl rfl)
theorem dX48_textBegin_24 : decode cX48_textBegin 24 = .ok (.aload_n 0, 1) := dk_42 (dk_at dksX48_textBegin_1 0 rfl rfl)
theorem dX48_textBegin_25 : decode cX48_textBegin 25 = .ok (.getfield 136, 3) := dk_180 0 136 (dk_at dksX48_textBegin_1 1 rfl rfl)
theorem dX48_textBegin_28 : decode cX48_textBegin 28 = .ok (.ireturn, 1) := dk_172 (dk_at dksX48_textBegin_1 4 rfl rfl)
abbrev cX48_rounds : ByteArray := prog_56_method_41_code
def yX48_rounds : MethodName := ⟨RX48, "rounds", "()J"⟩
def dkwX48_rounds_33 : List UInt8 := [180, 0, 35, 182, 2, 205, 184, 1, 72, 167, 0, 4, 9, 173, 42, 182, 1, 76, 173]
abbrev dktX48_rounds_33 : List UInt8 := dkwX48_rounds_33 ++ []
def dkwX48_rounds_32 : List UInt8 := [9, 173, 42, 19, 2, 203, 19, 1, 16, 182, 1, 7, 153, 0, 25, 42, 180, 0, 167, 156, 0, 16, 42]
abbrev dktX48_rounds_32 : List UInt8 := dkwX48_rounds_32 ++ dktX48_rounds_33
def dkwX48_rounds_31 : List UInt8 := [182, 1, 7, 153, 0, 23, 42, 180, 0, 167, 156, 0, 14, 42, 180, 0, 35, 182, 2, 201, 133, 167, 0, 4]
abbrev dktX48_rounds_31 : List UInt8 := dkwX48_rounds_31 ++ dktX48_rounds_32
def dkwX48_rounds_30 : List UInt8 := [42, 180, 0, 99, 4, 47, 136, 182, 2, 199, 133, 167, 0, 4, 9, 173, 42, 19, 2, 0, 19, 1, 16]
abbrev dktX48_rounds_30 : List UInt8 := dkwX48_rounds_30 ++ dktX48_rounds_31
def dkwX48_rounds_29 : List UInt8 := [182, 1, 7, 153, 0, 37, 42, 180, 0, 167, 156, 0, 28, 42, 180, 0, 35, 42, 180, 0, 99, 3, 47, 136]
abbrev dktX48_rounds_29 : List UInt8 := dkwX48_rounds_29 ++ dktX48_rounds_30
def dkwX48_rounds_28 : List UInt8 := [156, 0, 14, 42, 180, 0, 35, 182, 2, 195, 133, 167, 0, 4, 9, 173, 42, 19, 2, 197, 19, 1, 36]
abbrev dktX48_rounds_28 : List UInt8 := dkwX48_rounds_28 ++ dktX48_rounds_29
def dkwX48_rounds_27 : List UInt8 := [167, 0, 4, 9, 173, 42, 19, 2, 193, 19, 1, 16, 182, 1, 7, 153, 0, 23, 42, 180, 0, 167]
abbrev dktX48_rounds_27 : List UInt8 := dkwX48_rounds_27 ++ dktX48_rounds_28
def dkwX48_rounds_26 : List UInt8 := [180, 0, 167, 156, 0, 23, 42, 180, 0, 35, 42, 180, 0, 99, 3, 47, 136, 182, 2, 191, 184, 1, 72]
abbrev dktX48_rounds_26 : List UInt8 := dkwX48_rounds_26 ++ dktX48_rounds_27
def dkwX48_rounds_25 : List UInt8 := [182, 2, 188, 167, 0, 4, 9, 173, 42, 19, 2, 189, 19, 1, 22, 182, 1, 7, 153, 0, 32, 42]
abbrev dktX48_rounds_25 : List UInt8 := dkwX48_rounds_25 ++ dktX48_rounds_26
def dkwX48_rounds_24 : List UInt8 := [180, 0, 167, 156, 0, 27, 42, 180, 0, 35, 42, 180, 0, 99, 3, 47, 136, 42, 180, 0, 99, 4, 47, 136]
abbrev dktX48_rounds_24 : List UInt8 := dkwX48_rounds_24 ++ dktX48_rounds_25
def dkwX48_rounds_23 : List UInt8 := [182, 2, 186, 167, 0, 4, 9, 173, 42, 19, 1, 236, 19, 1, 36, 182, 1, 7, 153, 0, 36, 42]
abbrev dktX48_rounds_23 : List UInt8 := dkwX48_rounds_23 ++ dktX48_rounds_24
def dkwX48_rounds_22 : List UInt8 := [180, 0, 167, 156, 0, 27, 42, 180, 0, 35, 42, 180, 0, 99, 3, 47, 136, 42, 180, 0, 99, 4, 47, 136]
abbrev dktX48_rounds_22 : List UInt8 := dkwX48_rounds_22 ++ dktX48_rounds_23
def dkwX48_rounds_21 : List UInt8 := [182, 2, 182, 167, 0, 4, 9, 173, 42, 19, 2, 184, 19, 1, 36, 182, 1, 7, 153, 0, 36, 42]
abbrev dktX48_rounds_21 : List UInt8 := dkwX48_rounds_21 ++ dktX48_rounds_22
def dkwX48_rounds_20 : List UInt8 := [180, 0, 167, 156, 0, 27, 42, 180, 0, 35, 42, 180, 0, 99, 3, 47, 136, 42, 180, 0, 99, 4, 47, 136]
abbrev dktX48_rounds_20 : List UInt8 := dkwX48_rounds_20 ++ dktX48_rounds_21
def dkwX48_rounds_19 : List UInt8 := [182, 2, 178, 167, 0, 4, 9, 173, 42, 19, 2, 180, 19, 1, 36, 182, 1, 7, 153, 0, 36, 42]
abbrev dktX48_rounds_19 : List UInt8 := dkwX48_rounds_19 ++ dktX48_rounds_20
def dkwX48_rounds_18 : List UInt8 := [182, 1, 7, 153, 0, 29, 42, 180, 0, 167, 156, 0, 20, 42, 180, 0, 35, 42, 180, 0, 99, 3, 47, 136]
abbrev dktX48_rounds_18 : List UInt8 := dkwX48_rounds_18 ++ dktX48_rounds_19
def dkwX48_rounds_17 : List UInt8 := [180, 0, 99, 4, 47, 136, 182, 2, 174, 133, 167, 0, 4, 9, 173, 42, 19, 2, 176, 19, 1, 22]
abbrev dktX48_rounds_17 : List UInt8 := dkwX48_rounds_17 ++ dktX48_rounds_18
def dkwX48_rounds_16 : List UInt8 := [153, 0, 37, 42, 180, 0, 167, 156, 0, 28, 42, 180, 0, 35, 42, 180, 0, 99, 3, 47, 136, 42]
abbrev dktX48_rounds_16 : List UInt8 := dkwX48_rounds_16 ++ dktX48_rounds_17
def dkwX48_rounds_15 : List UInt8 := [180, 0, 35, 182, 2, 170, 133, 167, 0, 4, 9, 173, 42, 19, 2, 172, 19, 1, 36, 182, 1, 7]
abbrev dktX48_rounds_15 : List UInt8 := dkwX48_rounds_15 ++ dktX48_rounds_16
def dkwX48_rounds_14 : List UInt8 := [9, 173, 42, 19, 2, 168, 19, 1, 16, 182, 1, 7, 153, 0, 23, 42, 180, 0, 167, 156, 0, 14, 42]
abbrev dktX48_rounds_14 : List UInt8 := dkwX48_rounds_14 ++ dktX48_rounds_15
def dkwX48_rounds_13 : List UInt8 := [182, 1, 7, 153, 0, 23, 42, 180, 0, 167, 156, 0, 14, 42, 180, 0, 35, 182, 2, 166, 133, 167, 0, 4]
abbrev dktX48_rounds_13 : List UInt8 := dkwX48_rounds_13 ++ dktX48_rounds_14
def dkwX48_rounds_12 : List UInt8 := [180, 0, 99, 3, 47, 136, 182, 2, 162, 133, 167, 0, 4, 9, 173, 42, 19, 2, 164, 19, 1, 16]
abbrev dktX48_rounds_12 : List UInt8 := dkwX48_rounds_12 ++ dktX48_rounds_13
def dkwX48_rounds_11 : List UInt8 := [19, 2, 92, 19, 1, 22, 182, 1, 7, 153, 0, 30, 42, 180, 0, 167, 156, 0, 21, 42, 180, 0, 35, 42]
abbrev dktX48_rounds_11 : List UInt8 := dkwX48_rounds_11 ++ dktX48_rounds_12
def dkwX48_rounds_10 : List UInt8 := [182, 1, 7, 153, 0, 19, 42, 180, 0, 167, 156, 0, 10, 42, 180, 0, 35, 182, 2, 160, 10, 173, 42]
abbrev dktX48_rounds_10 : List UInt8 := dkwX48_rounds_10 ++ dktX48_rounds_11
def dkwX48_rounds_9 : List UInt8 := [4, 167, 0, 4, 3, 182, 2, 157, 184, 1, 72, 167, 0, 4, 9, 173, 42, 19, 2, 80, 19, 1, 16]
abbrev dktX48_rounds_9 : List UInt8 := dkwX48_rounds_9 ++ dktX48_rounds_10
def dkwX48_rounds_8 : List UInt8 := [180, 0, 99, 3, 47, 136, 42, 180, 0, 99, 4, 47, 136, 42, 180, 0, 99, 5, 47, 10, 148, 154, 0, 7]
abbrev dktX48_rounds_8 : List UInt8 := dkwX48_rounds_8 ++ dktX48_rounds_9
def dkwX48_rounds_7 : List UInt8 := [19, 2, 153, 19, 2, 155, 182, 1, 7, 153, 0, 55, 42, 180, 0, 167, 156, 0, 46, 42, 180, 0, 35, 42]
abbrev dktX48_rounds_7 : List UInt8 := dkwX48_rounds_7 ++ dktX48_rounds_8
def dkwX48_rounds_6 : List UInt8 := [4, 47, 136, 42, 180, 0, 99, 5, 47, 136, 182, 2, 150, 184, 1, 72, 167, 0, 4, 9, 173, 42]
abbrev dktX48_rounds_6 : List UInt8 := dkwX48_rounds_6 ++ dktX48_rounds_7
def dkwX48_rounds_5 : List UInt8 := [153, 0, 45, 42, 180, 0, 167, 156, 0, 36, 42, 180, 0, 35, 42, 180, 0, 99, 3, 47, 42, 180, 0, 99]
abbrev dktX48_rounds_5 : List UInt8 := dkwX48_rounds_5 ++ dktX48_rounds_6
def dkwX48_rounds_4 : List UInt8 := [6, 47, 182, 2, 143, 184, 1, 72, 167, 0, 4, 9, 173, 42, 19, 2, 146, 19, 2, 148, 182, 1, 7]
abbrev dktX48_rounds_4 : List UInt8 := dkwX48_rounds_4 ++ dktX48_rounds_5
def dkwX48_rounds_3 : List UInt8 := [180, 0, 99, 3, 47, 136, 42, 180, 0, 99, 4, 47, 136, 42, 180, 0, 99, 5, 47, 136, 42, 180, 0, 99]
abbrev dktX48_rounds_3 : List UInt8 := dkwX48_rounds_3 ++ dktX48_rounds_4
def dkwX48_rounds_2 : List UInt8 := [19, 2, 85, 19, 2, 141, 182, 1, 7, 153, 0, 52, 42, 180, 0, 167, 156, 0, 43, 42, 180, 0, 35, 42]
abbrev dktX48_rounds_2 : List UInt8 := dkwX48_rounds_2 ++ dktX48_rounds_3
def dkwX48_rounds_1 : List UInt8 := [42, 180, 0, 99, 3, 47, 42, 180, 0, 99, 4, 47, 136, 182, 2, 138, 133, 167, 0, 4, 9, 173, 42]
abbrev dktX48_rounds_1 : List UInt8 := dkwX48_rounds_1 ++ dktX48_rounds_2
def dkwX48_rounds_0 : List UInt8 := [42, 19, 2, 134, 19, 2, 136, 182, 1, 7, 153, 0, 36, 42, 180, 0, 167, 156, 0, 27, 42, 180, 0, 35]
abbrev dktX48_rounds_0 : List UInt8 := dkwX48_rounds_0 ++ dktX48_rounds_1
theorem dksX48_rounds_0 : cX48_rounds.data.toList.drop 0 = dktX48_rounds_0 := by decide +kernel
theorem dksX48_rounds_1 : cX48_rounds.data.toList.drop 24 = dktX48_rounds_1 := dk_seg dksX48_rounds_0 24 rfl rfl
theorem dksX48_rounds_2 : cX48_rounds.data.toList.drop 47 = dktX48_rounds_2 := dk_seg dksX48_rounds_1 23 rfl rfl
theorem dksX48_rounds_3 : cX48_rounds.data.toList.drop 71 = dktX48_rounds_3 := dk_seg dksX48_rounds_2 24 rfl rfl
theorem dksX48_rounds_4 : cX48_rounds.data.toList.drop 95 = dktX48_rounds_4 := dk_seg dksX48_rounds_3 24 rfl rfl
theorem dksX48_rounds_5 : cX48_rounds.data.toList.drop 118 = dktX48_rounds_5 := dk_seg dksX48_rounds_4 23 rfl rfl
theorem dksX48_rounds_6 : cX48_rounds.data.toList.drop 142 = dktX48_rounds_6 := dk_seg dksX48_rounds_5 24 rfl rfl
theorem dksX48_rounds_7 : cX48_rounds.data.toList.drop 164 = dktX48_rounds_7 := dk_seg dksX48_rounds_6 22 rfl rfl
theorem dksX48_rounds_8 : cX48_rounds.data.toList.drop 188 = dktX48_rounds_8 := dk_seg dksX48_rounds_7 24 rfl rfl
theorem dksX48_rounds_9 : cX48_rounds.data.toList.drop 212 = dktX48_rounds_9 := dk_seg dksX48_rounds_8 24 rfl rfl
theorem dksX48_rounds_10 : cX48_rounds.data.toList.drop 235 = dktX48_rounds_10 := dk_seg dksX48_rounds_9 23 rfl rfl
theorem dksX48_rounds_11 : cX48_rounds.data.toList.drop 258 = dktX48_rounds_11 := dk_seg dksX48_rounds_10 23 rfl rfl
theorem dksX48_rounds_12 : cX48_rounds.data.toList.drop 282 = dktX48_rounds_12 := dk_seg dksX48_rounds_11 24 rfl rfl
theorem dksX48_rounds_13 : cX48_rounds.data.toList.drop 304 = dktX48_rounds_13 := dk_seg dksX48_rounds_12 22 rfl rfl
theorem dksX48_rounds_14 : cX48_rounds.data.toList.drop 328 = dktX48_rounds_14 := dk_seg dksX48_rounds_13 24 rfl rfl
theorem dksX48_rounds_15 : cX48_rounds.data.toList.drop 351 = dktX48_rounds_15 := dk_seg dksX48_rounds_14 23 rfl rfl
theorem dksX48_rounds_16 : cX48_rounds.data.toList.drop 373 = dktX48_rounds_16 := dk_seg dksX48_rounds_15 22 rfl rfl
theorem dksX48_rounds_17 : cX48_rounds.data.toList.drop 395 = dktX48_rounds_17 := dk_seg dksX48_rounds_16 22 rfl rfl
theorem dksX48_rounds_18 : cX48_rounds.data.toList.drop 417 = dktX48_rounds_18 := dk_seg dksX48_rounds_17 22 rfl rfl
theorem dksX48_rounds_19 : cX48_rounds.data.toList.drop 441 = dktX48_rounds_19 := dk_seg dksX48_rounds_18 24 rfl rfl
theorem dksX48_rounds_20 : cX48_rounds.data.toList.drop 463 = dktX48_rounds_20 := dk_seg dksX48_rounds_19 22 rfl rfl
theorem dksX48_rounds_21 : cX48_rounds.data.toList.drop 487 = dktX48_rounds_21 := dk_seg dksX48_rounds_20 24 rfl rfl
theorem dksX48_rounds_22 : cX48_rounds.data.toList.drop 509 = dktX48_rounds_22 := dk_seg dksX48_rounds_21 22 rfl rfl
theorem dksX48_rounds_23 : cX48_rounds.data.toList.drop 533 = dktX48_rounds_23 := dk_seg dksX48_rounds_22 24 rfl rfl
theorem dksX48_rounds_24 : cX48_rounds.data.toList.drop 555 = dktX48_rounds_24 := dk_seg dksX48_rounds_23 22 rfl rfl
theorem dksX48_rounds_25 : cX48_rounds.data.toList.drop 579 = dktX48_rounds_25 := dk_seg dksX48_rounds_24 24 rfl rfl
theorem dksX48_rounds_26 : cX48_rounds.data.toList.drop 601 = dktX48_rounds_26 := dk_seg dksX48_rounds_25 22 rfl rfl
theorem dksX48_rounds_27 : cX48_rounds.data.toList.drop 624 = dktX48_rounds_27 := dk_seg dksX48_rounds_26 23 rfl rfl
theorem dksX48_rounds_28 : cX48_rounds.data.toList.drop 646 = dktX48_rounds_28 := dk_seg dksX48_rounds_27 22 rfl rfl
theorem dksX48_rounds_29 : cX48_rounds.data.toList.drop 669 = dktX48_rounds_29 := dk_seg dksX48_rounds_28 23 rfl rfl
theorem dksX48_rounds_30 : cX48_rounds.data.toList.drop 693 = dktX48_rounds_30 := dk_seg dksX48_rounds_29 24 rfl rfl
theorem dksX48_rounds_31 : cX48_rounds.data.toList.drop 716 = dktX48_rounds_31 := dk_seg dksX48_rounds_30 23 rfl rfl
theorem dksX48_rounds_32 : cX48_rounds.data.toList.drop 740 = dktX48_rounds_32 := dk_seg dksX48_rounds_31 24 rfl rfl
theorem dksX48_rounds_33 : cX48_rounds.data.toList.drop 763 = dktX48_rounds_33 := dk_seg dksX48_rounds_32 23 rfl rfl
theorem dX48_rounds_0 : decode cX48_rounds 0 = .ok (.aload_n 0, 1) := dk_42 (dk_at dksX48_rounds_0 0 rfl rfl)
theorem dX48_rounds_1 : decode cX48_rounds 1 = .ok (.ldc_w 646, 3) := dk_19 2 134 (dk_at dksX48_rounds_0 1 rfl rfl)
theorem dX48_rounds_4 : decode cX48_rounds 4 = .ok (.ldc_w 648, 3) := dk_19 2 136 (dk_at dksX48_rounds_0 4 rfl rfl)
theorem dX48_rounds_7 : decode cX48_rounds 7 = .ok (.invokevirtual 263, 3) := dk_182 1 7 (dk_at dksX48_rounds_0 7 rfl rfl)
theorem dX48_rounds_10 : decode cX48_rounds 10 = .ok (.ifCond .eq 36, 3) := dk_153 0 36 (dk_at dksX48_rounds_0 10 rfl rfl)
theorem dX48_rounds_13 : decode cX48_rounds 13 = .ok (.aload_n 0, 1) := dk_42 (dk_at dksX48_rounds_0 13 rfl rfl)
theorem dX48_rounds_14 : decode cX48_rounds 14 = .ok (.getfield 167, 3) := dk_180 0 167 (dk_at dksX48_rounds_0 14 rfl rfl)
theorem dX48_rounds_17 : decode cX48_rounds 17 = .ok (.ifCond .ge 27, 3) := dk_156 0 27 (dk_at dksX48_rounds_0 17 rfl rfl)
theorem dX48_rounds_20 : decode cX48_rounds 20 = .ok (.aload_n 0, 1) := dk_42 (dk_at dksX48_rounds_0 20 rfl rfl)
theorem dX48_rounds_21 : decode cX48_rounds 21 = .ok (.getfield 35, 3) := dk_180 0 35 (dk_at dksX48_rounds_0 21 rfl rfl)
theorem dX48_rounds_24 : decode cX48_rounds 24 = .ok (.aload_n 0, 1) := dk_42 (dk_at dksX48_rounds_1 0 rfl rfl)
theorem dX48_rounds_25 : decode cX48_rounds 25 = .ok (.getfield 99, 3) := dk_180 0 99 (dk_at dksX48_rounds_1 1 rfl rfl)
theorem dX48_rounds_28 : decode cX48_rounds 28 = .ok (.iconst 0, 1) := dk_3 (dk_at dksX48_rounds_1 4 rfl rfl)
theorem dX48_rounds_29 : decode cX48_rounds 29 = .ok (.laload, 1) := dk_47 (dk_at dksX48_rounds_1 5 rfl rfl)
theorem dX48_rounds_30 : decode cX48_rounds 30 = .ok (.aload_n 0, 1) := dk_42 (dk_at dksX48_rounds_1 6 rfl rfl)
theorem dX48_rounds_31 : decode cX48_rounds 31 = .ok (.getfield 99, 3) := dk_180 0 99 (dk_at dksX48_rounds_1 7 rfl rfl)
theorem dX48_rounds_34 : decode cX48_rounds 34 = .ok (.iconst 1, 1) := dk_4 (dk_at dksX48_rounds_1 10 rfl rfl)
theorem dX48_rounds_35 : decode cX48_rounds 35 = .ok (.laload, 1) := dk_47 (dk_at dksX48_rounds_1 11 rfl rfl)
theorem dX48_rounds_36 : decode cX48_rounds 36 = .ok (.l2i, 1) := dk_136 (dk_at dksX48_rounds_1 12 rfl rfl)
theorem dX48_rounds_37 : decode cX48_rounds 37 = .ok (.invokevirtual 650, 3) := dk_182 2 138 (dk_at dksX48_rounds_1 13 rfl rfl)
theorem dX48_rounds_40 : decode cX48_rounds 40 = .ok (.i2l, 1) := dk_133 (dk_at dksX48_rounds_1 16 rfl rfl)
theorem dX48_rounds_41 : decode cX48_rounds 41 = .ok (.goto 4, 3) := dk_167 0 4 (dk_at dksX48_rounds_1 17 rfl rfl)
theorem dX48_rounds_44 : decode cX48_rounds 44 = .ok (.lconst 0, 1) := dk_9 (dk_at dksX48_rounds_1 20 rfl rfl)
theorem dX48_rounds_45 : decode cX48_rounds 45 = .ok (.lreturn, 1) := dk_173 (dk_at dksX48_rounds_1 21 rfl rfl)
theorem dX48_rounds_46 : decode cX48_rounds 46 = .ok (.aload_n 0, 1) := dk_42 (dk_at dksX48_rounds_1 22 rfl rfl)
theorem dX48_rounds_47 : decode cX48_rounds 47 = .ok (.ldc_w 597, 3) := dk_19 2 85 (dk_at dksX48_rounds_2 0 rfl rfl)
theorem dX48_rounds_50 : decode cX48_rounds 50 = .ok (.ldc_w 653, 3) := dk_19 2 141 (dk_at dksX48_rounds_2 3 rfl rfl)
theorem dX48_rounds_53 : decode cX48_rounds 53 = .ok (.invokevirtual 263, 3) := dk_182 1 7 (dk_at dksX48_rounds_2 6 rfl rfl)
theorem dX48_rounds_56 : decode cX48_rounds 56 = .ok (.ifCond .eq 52, 3) := dk_153 0 52 (dk_at dksX48_rounds_2 9 rfl rfl)
theorem dX48_rounds_59 : decode cX48_rounds 59 = .ok (.aload_n 0, 1) := dk_42 (dk_at dksX48_rounds_2 12 rfl rfl)
theorem dX48_rounds_60 : decode cX48_rounds 60 = .ok (.getfield 167, 3) := dk_180 0 167 (dk_at dksX48_rounds_2 13 rfl rfl)
theorem dX48_rounds_63 : decode cX48_rounds 63 = .ok (.ifCond .ge 43, 3) := dk_156 0 43 (dk_at dksX48_rounds_2 16 rfl rfl)
theorem dX48_rounds_66 : decode cX48_rounds 66 = .ok (.aload_n 0, 1) := dk_42 (dk_at dksX48_rounds_2 19 rfl rfl)
theorem dX48_rounds_67 : decode cX48_rounds 67 = .ok (.getfield 35, 3) := dk_180 0 35 (dk_at dksX48_rounds_2 20 rfl rfl)
theorem dX48_rounds_70 : decode cX48_rounds 70 = .ok (.aload_n 0, 1) := dk_42 (dk_at dksX48_rounds_2 23 rfl rfl)
theorem dX48_rounds_71 : decode cX48_rounds 71 = .ok (.getfield 99, 3) := dk_180 0 99 (dk_at dksX48_rounds_3 0 rfl rfl)
theorem dX48_rounds_74 : decode cX48_rounds 74 = .ok (.iconst 0, 1) := dk_3 (dk_at dksX48_rounds_3 3 rfl rfl)
theorem dX48_rounds_75 : decode cX48_rounds 75 = .ok (.laload, 1) := dk_47 (dk_at dksX48_rounds_3 4 rfl rfl)
theorem dX48_rounds_76 : decode cX48_rounds 76 = .ok (.l2i, 1) := dk_136 (dk_at dksX48_rounds_3 5 rfl rfl)
theorem dX48_rounds_77 : decode cX48_rounds 77 = .ok (.aload_n 0, 1) := dk_42 (dk_at dksX48_rounds_3 6 rfl rfl)
theorem dX48_rounds_78 : decode cX48_rounds 78 = .ok (.getfield 99, 3) := dk_180 0 99 (dk_at dksX48_rounds_3 7 rfl rfl)
theorem dX48_rounds_81 : decode cX48_rounds 81 = .ok (.iconst 1, 1) := dk_4 (dk_at dksX48_rounds_3 10 rfl rfl)
theorem dX48_rounds_82 : decode cX48_rounds 82 = .ok (.laload, 1) := dk_47 (dk_at dksX48_rounds_3 11 rfl rfl)
theorem dX48_rounds_83 : decode cX48_rounds 83 = .ok (.l2i, 1) := dk_136 (dk_at dksX48_rounds_3 12 rfl rfl)
theorem dX48_rounds_84 : decode cX48_rounds 84 = .ok (.aload_n 0, 1) := dk_42 (dk_at dksX48_rounds_3 13 rfl rfl)
theorem dX48_rounds_85 : decode cX48_rounds 85 = .ok (.getfield 99, 3) := dk_180 0 99 (dk_at dksX48_rounds_3 14 rfl rfl)
theorem dX48_rounds_88 : decode cX48_rounds 88 = .ok (.iconst 2, 1) := dk_5 (dk_at dksX48_rounds_3 17 rfl rfl)
theorem dX48_rounds_89 : decode cX48_rounds 89 = .ok (.laload, 1) := dk_47 (dk_at dksX48_rounds_3 18 rfl rfl)
theorem dX48_rounds_90 : decode cX48_rounds 90 = .ok (.l2i, 1) := dk_136 (dk_at dksX48_rounds_3 19 rfl rfl)
theorem dX48_rounds_91 : decode cX48_rounds 91 = .ok (.aload_n 0, 1) := dk_42 (dk_at dksX48_rounds_3 20 rfl rfl)
theorem dX48_rounds_92 : decode cX48_rounds 92 = .ok (.getfield 99, 3) := dk_180 0 99 (dk_at dksX48_rounds_3 21 rfl rfl)
theorem dX48_rounds_95 : decode cX48_rounds 95 = .ok (.iconst 3, 1) := dk_6 (dk_at dksX48_rounds_4 0 rfl rfl)
theorem dX48_rounds_96 : decode cX48_rounds 96 = .ok (.laload, 1) := dk_47 (dk_at dksX48_rounds_4 1 rfl rfl)
theorem dX48_rounds_97 : decode cX48_rounds 97 = .ok (.invokevirtual 655, 3) := dk_182 2 143 (dk_at dksX48_rounds_4 2 rfl rfl)
theorem dX48_rounds_100 : decode cX48_rounds 100 = .ok (.invokestatic 328, 3) := dk_184 1 72 (dk_at dksX48_rounds_4 5 rfl rfl)
theorem dX48_rounds_103 : decode cX48_rounds 103 = .ok (.goto 4, 3) := dk_167 0 4 (dk_at dksX48_rounds_4 8 rfl rfl)
theorem dX48_rounds_106 : decode cX48_rounds 106 = .ok (.lconst 0, 1) := dk_9 (dk_at dksX48_rounds_4 11 rfl rfl)
theorem dX48_rounds_107 : decode cX48_rounds 107 = .ok (.lreturn, 1) := dk_173 (dk_at dksX48_rounds_4 12 rfl rfl)
theorem dX48_rounds_108 : decode cX48_rounds 108 = .ok (.aload_n 0, 1) := dk_42 (dk_at dksX48_rounds_4 13 rfl rfl)
theorem dX48_rounds_109 : decode cX48_rounds 109 = .ok (.ldc_w 658, 3) := dk_19 2 146 (dk_at dksX48_rounds_4 14 rfl rfl)
theorem dX48_rounds_112 : decode cX48_rounds 112 = .ok (.ldc_w 660, 3) := dk_19 2 148 (dk_at dksX48_rounds_4 17 rfl rfl)
theorem dX48_rounds_115 : decode cX48_rounds 115 = .ok (.invokevirtual 263, 3) := dk_182 1 7 (dk_at dksX48_rounds_4 20 rfl rfl)
theorem dX48_rounds_118 : decode cX48_rounds 118 = .ok (.ifCond .eq 45, 3) := dk_153 0 45 (dk_at dksX48_rounds_5 0 rfl rfl)
theorem dX48_rounds_121 : decode cX48_rounds 121 = .ok (.aload_n 0, 1) := dk_42 (dk_at dksX48_rounds_5 3 rfl rfl)
theorem dX48_rounds_122 : decode cX48_rounds 122 = .ok (.getfield 167, 3) := dk_180 0 167 (dk_at dksX48_rounds_5 4 rfl rfl)
theorem dX48_rounds_125 : decode cX48_rounds 125 = .ok (.ifCond .ge 36, 3) := dk_156 0 36 (dk_at dksX48_rounds_5 7 rfl rfl)
theorem dX48_rounds_128 : decode cX48_rounds 128 = .ok (.aload_n 0, 1) := dk_42 (dk_at dksX48_rounds_5 10 rfl rfl)
theorem dX48_rounds_129 : decode cX48_rounds 129 = .ok (.getfield 35, 3) := dk_180 0 35 (dk_at dksX48_rounds_5 11 rfl rfl)
theorem dX48_rounds_132 : decode cX48_rounds 132 = .ok (.aload_n 0, 1) := dk_42 (dk_at dksX48_rounds_5 14 rfl rfl)
theorem dX48_rounds_133 : decode cX48_rounds 133 = .ok (.getfield 99, 3) := dk_180 0 99 (dk_at dksX48_rounds_5 15 rfl rfl)
theorem dX48_rounds_136 : decode cX48_rounds 136 = .ok (.iconst 0, 1) := dk_3 (dk_at dksX48_rounds_5 18 rfl rfl)
theorem dX48_rounds_137 : decode cX48_rounds 137 = .ok (.laload, 1) := dk_47 (dk_at dksX48_rounds_5 19 rfl rfl)
theorem dX48_rounds_138 : decode cX48_rounds 138 = .ok (.aload_n 0, 1) := dk_42 (dk_at dksX48_rounds_5 20 rfl rfl)
theorem dX48_rounds_139 : decode cX48_rounds 139 = .ok (.getfield 99, 3) := dk_180 0 99 (dk_at dksX48_rounds_5 21 rfl rfl)
theorem dX48_rounds_142 : decode cX48_rounds 142 = .ok (.iconst 1, 1) := dk_4 (dk_at dksX48_rounds_6 0 rfl rfl)
theorem dX48_rounds_143 : decode cX48_rounds 143 = .ok (.laload, 1) := dk_47 (dk_at dksX48_rounds_6 1 rfl rfl)
theorem dX48_rounds_144 : decode cX48_rounds 144 = .ok (.l2i, 1) := dk_136 (dk_at dksX48_rounds_6 2 rfl rfl)
theorem dX48_rounds_145 : decode cX48_rounds 145 = .ok (.aload_n 0, 1) := dk_42 (dk_at dksX48_rounds_6 3 rfl rfl)
theorem dX48_rounds_146 : decode cX48_rounds 146 = .ok (.getfield 99, 3) := dk_180 0 99 (dk_at dksX48_rounds_6 4 rfl rfl)
theorem dX48_rounds_149 : decode cX48_rounds 149 = .ok (.iconst 2, 1) := dk_5 (dk_at dksX48_rounds_6 7 rfl rfl)
theorem dX48_rounds_150 : decode cX48_rounds 150 = .ok (.laload, 1) := dk_47 (dk_at dksX48_rounds_6 8 rfl rfl)
theorem dX48_rounds_151 : decode cX48_rounds 151 = .ok (.l2i, 1) := dk_136 (dk_at dksX48_rounds_6 9 rfl rfl)
theorem dX48_rounds_152 : decode cX48_rounds 152 = .ok (.invokevirtual 662, 3) := dk_182 2 150 (dk_at dksX48_rounds_6 10 rfl rfl)
theorem dX48_rounds_155 : decode cX48_rounds 155 = .ok (.invokestatic 328, 3) := dk_184 1 72 (dk_at dksX48_rounds_6 13 rfl rfl)
theorem dX48_rounds_158 : decode cX48_rounds 158 = .ok (.goto 4, 3) := dk_167 0 4 (dk_at dksX48_rounds_6 16 rfl rfl)
theorem dX48_rounds_161 : decode cX48_rounds 161 = .ok (.lconst 0, 1) := dk_9 (dk_at dksX48_rounds_6 19 rfl rfl)
theorem dX48_rounds_162 : decode cX48_rounds 162 = .ok (.lreturn, 1) := dk_173 (dk_at dksX48_rounds_6 20 rfl rfl)
theorem dX48_rounds_163 : decode cX48_rounds 163 = .ok (.aload_n 0, 1) := dk_42 (dk_at dksX48_rounds_6 21 rfl rfl)
theorem dX48_rounds_164 : decode cX48_rounds 164 = .ok (.ldc_w 665, 3) := dk_19 2 153 (dk_at dksX48_rounds_7 0 rfl rfl)
theorem dX48_rounds_167 : decode cX48_rounds 167 = .ok (.ldc_w 667, 3) := dk_19 2 155 (dk_at dksX48_rounds_7 3 rfl rfl)
theorem dX48_rounds_170 : decode cX48_rounds 170 = .ok (.invokevirtual 263, 3) := dk_182 1 7 (dk_at dksX48_rounds_7 6 rfl rfl)
theorem dX48_rounds_173 : decode cX48_rounds 173 = .ok (.ifCond .eq 55, 3) := dk_153 0 55 (dk_at dksX48_rounds_7 9 rfl rfl)
theorem dX48_rounds_176 : decode cX48_rounds 176 = .ok (.aload_n 0, 1) := dk_42 (dk_at dksX48_rounds_7 12 rfl rfl)
theorem dX48_rounds_177 : decode cX48_rounds 177 = .ok (.getfield 167, 3) := dk_180 0 167 (dk_at dksX48_rounds_7 13 rfl rfl)
theorem dX48_rounds_180 : decode cX48_rounds 180 = .ok (.ifCond .ge 46, 3) := dk_156 0 46 (dk_at dksX48_rounds_7 16 rfl rfl)
theorem dX48_rounds_183 : decode cX48_rounds 183 = .ok (.aload_n 0, 1) := dk_42 (dk_at dksX48_rounds_7 19 rfl rfl)
theorem dX48_rounds_184 : decode cX48_rounds 184 = .ok (.getfield 35, 3) := dk_180 0 35 (dk_at dksX48_rounds_7 20 rfl rfl)
theorem dX48_rounds_187 : decode cX48_rounds 187 = .ok (.aload_n 0, 1) := dk_42 (dk_at dksX48_rounds_7 23 rfl rfl)
theorem dX48_rounds_188 : decode cX48_rounds 188 = .ok (.getfield 99, 3) := dk_180 0 99 (dk_at dksX48_rounds_8 0 rfl rfl)
theorem dX48_rounds_191 : decode cX48_rounds 191 = .ok (.iconst 0, 1) := dk_3 (dk_at dksX48_rounds_8 3 rfl rfl)
theorem dX48_rounds_192 : decode cX48_rounds 192 = .ok (.laload, 1) := dk_47 (dk_at dksX48_rounds_8 4 rfl rfl)
theorem dX48_rounds_193 : decode cX48_rounds 193 = .ok (.l2i, 1) := dk_136 (dk_at dksX48_rounds_8 5 rfl rfl)
theorem dX48_rounds_194 : decode cX48_rounds 194 = .ok (.aload_n 0, 1) := dk_42 (dk_at dksX48_rounds_8 6 rfl rfl)
theorem dX48_rounds_195 : decode cX48_rounds 195 = .ok (.getfield 99, 3) := dk_180 0 99 (dk_at dksX48_rounds_8 7 rfl rfl)
theorem dX48_rounds_198 : decode cX48_rounds 198 = .ok (.iconst 1, 1) := dk_4 (dk_at dksX48_rounds_8 10 rfl rfl)
theorem dX48_rounds_199 : decode cX48_rounds 199 = .ok (.laload, 1) := dk_47 (dk_at dksX48_rounds_8 11 rfl rfl)
theorem dX48_rounds_200 : decode cX48_rounds 200 = .ok (.l2i, 1) := dk_136 (dk_at dksX48_rounds_8 12 rfl rfl)
theorem dX48_rounds_201 : decode cX48_rounds 201 = .ok (.aload_n 0, 1) := dk_42 (dk_at dksX48_rounds_8 13 rfl rfl)
theorem dX48_rounds_202 : decode cX48_rounds 202 = .ok (.getfield 99, 3) := dk_180 0 99 (dk_at dksX48_rounds_8 14 rfl rfl)
theorem dX48_rounds_205 : decode cX48_rounds 205 = .ok (.iconst 2, 1) := dk_5 (dk_at dksX48_rounds_8 17 rfl rfl)
theorem dX48_rounds_206 : decode cX48_rounds 206 = .ok (.laload, 1) := dk_47 (dk_at dksX48_rounds_8 18 rfl rfl)
theorem dX48_rounds_207 : decode cX48_rounds 207 = .ok (.lconst 1, 1) := dk_10 (dk_at dksX48_rounds_8 19 rfl rfl)
theorem dX48_rounds_208 : decode cX48_rounds 208 = .ok (.lcmp, 1) := dk_148 (dk_at dksX48_rounds_8 20 rfl rfl)
theorem dX48_rounds_209 : decode cX48_rounds 209 = .ok (.ifCond .ne 7, 3) := dk_154 0 7 (dk_at dksX48_rounds_8 21 rfl rfl)
theorem dX48_rounds_212 : decode cX48_rounds 212 = .ok (.iconst 1, 1) := dk_4 (dk_at dksX48_rounds_9 0 rfl rfl)
theorem dX48_rounds_213 : decode cX48_rounds 213 = .ok (.goto 4, 3) := dk_167 0 4 (dk_at dksX48_rounds_9 1 rfl rfl)
theorem dX48_rounds_216 : decode cX48_rounds 216 = .ok (.iconst 0, 1) := dk_3 (dk_at dksX48_rounds_9 4 rfl rfl)
theorem dX48_rounds_217 : decode cX48_rounds 217 = .ok (.invokevirtual 669, 3) := dk_182 2 157 (dk_at dksX48_rounds_9 5 rfl rfl)
theorem dX48_rounds_220 : decode cX48_rounds 220 = .ok (.invokestatic 328, 3) := dk_184 1 72 (dk_at dksX48_rounds_9 8 rfl rfl)
theorem dX48_rounds_223 : decode cX48_rounds 223 = .ok (.goto 4, 3) := dk_167 0 4 (dk_at dksX48_rounds_9 11 rfl rfl)
theorem dX48_rounds_226 : decode cX48_rounds 226 = .ok (.lconst 0, 1) := dk_9 (dk_at dksX48_rounds_9 14 rfl rfl)
theorem dX48_rounds_227 : decode cX48_rounds 227 = .ok (.lreturn, 1) := dk_173 (dk_at dksX48_rounds_9 15 rfl rfl)
theorem dX48_rounds_228 : decode cX48_rounds 228 = .ok (.aload_n 0, 1) := dk_42 (dk_at dksX48_rounds_9 16 rfl rfl)
theorem dX48_rounds_229 : decode cX48_rounds 229 = .ok (.ldc_w 592, 3) := dk_19 2 80 (dk_at dksX48_rounds_9 17 rfl rfl)
theorem dX48_rounds_232 : decode cX48_rounds 232 = .ok (.ldc_w 272, 3) := dk_19 1 16 (dk_at dksX48_rounds_9 20 rfl rfl)
theorem dX48_rounds_235 : decode cX48_rounds 235 = .ok (.invokevirtual 263, 3) := dk_182 1 7 (dk_at dksX48_rounds_10 0 rfl rfl)
theorem dX48_rounds_238 : decode cX48_rounds 238 = .ok (.ifCond .eq 19, 3) := dk_153 0 19 (dk_at dksX48_rounds_10 3 rfl rfl)
theorem dX48_rounds_241 : decode cX48_rounds 241 = .ok (.aload_n 0, 1) := dk_42 (dk_at dksX48_rounds_10 6 rfl rfl)
theorem dX48_rounds_242 : decode cX48_rounds 242 = .ok (.getfield 167, 3) := dk_180 0 167 (dk_at dksX48_rounds_10 7 rfl rfl)
theorem dX48_rounds_245 : decode cX48_rounds 245 = .ok (.ifCond .ge 10, 3) := dk_156 0 10 (dk_at dksX48_rounds_10 10 rfl rfl)
theorem dX48_rounds_248 : decode cX48_rounds 248 = .ok (.aload_n 0, 1) := dk_42 (dk_at dksX48_rounds_10 13 rfl rfl)
theorem dX48_rounds_249 : decode cX48_rounds 249 = .ok (.getfield 35, 3) := dk_180 0 35 (dk_at dksX48_rounds_10 14 rfl rfl)
theorem dX48_rounds_252 : decode cX48_rounds 252 = .ok (.invokevirtual 672, 3) := dk_182 2 160 (dk_at dksX48_rounds_10 17 rfl rfl)
theorem dX48_rounds_255 : decode cX48_rounds 255 = .ok (.lconst 1, 1) := dk_10 (dk_at dksX48_rounds_10 20 rfl rfl)
theorem dX48_rounds_256 : decode cX48_rounds 256 = .ok (.lreturn, 1) := dk_173 (dk_at dksX48_rounds_10 21 rfl rfl)
theorem dX48_rounds_257 : decode cX48_rounds 257 = .ok (.aload_n 0, 1) := dk_42 (dk_at dksX48_rounds_10 22 rfl rfl)
theorem dX48_rounds_258 : decode cX48_rounds 258 = .ok (.ldc_w 604, 3) := dk_19 2 92 (dk_at dksX48_rounds_11 0 rfl rfl)
theorem dX48_rounds_261 : decode cX48_rounds 261 = .ok (.ldc_w 278, 3) := dk_19 1 22 (dk_at dksX48_rounds_11 3 rfl rfl)
theorem dX48_rounds_264 : decode cX48_rounds 264 = .ok (.invokevirtual 263, 3) := dk_182 1 7 (dk_at dksX48_rounds_11 6 rfl rfl)
theorem dX48_rounds_267 : decode cX48_rounds 267 = .ok (.ifCond .eq 30, 3) := dk_153 0 30 (dk_at dksX48_rounds_11 9 rfl rfl)
theorem dX48_rounds_270 : decode cX48_rounds 270 = .ok (.aload_n 0, 1) := dk_42 (dk_at dksX48_rounds_11 12 rfl rfl)
theorem dX48_rounds_271 : decode cX48_rounds 271 = .ok (.getfield 167, 3) := dk_180 0 167 (dk_at dksX48_rounds_11 13 rfl rfl)
theorem dX48_rounds_274 : decode cX48_rounds 274 = .ok (.ifCond .ge 21, 3) := dk_156 0 21 (dk_at dksX48_rounds_11 16 rfl rfl)
theorem dX48_rounds_277 : decode cX48_rounds 277 = .ok (.aload_n 0, 1) := dk_42 (dk_at dksX48_rounds_11 19 rfl rfl)
theorem dX48_rounds_278 : decode cX48_rounds 278 = .ok (.getfield 35, 3) := dk_180 0 35 (dk_at dksX48_rounds_11 20 rfl rfl)
theorem dX48_rounds_281 : decode cX48_rounds 281 = .ok (.aload_n 0, 1) := dk_42 (dk_at dksX48_rounds_11 23 rfl rfl)
theorem dX48_rounds_282 : decode cX48_rounds 282 = .ok (.getfield 99, 3) := dk_180 0 99 (dk_at dksX48_rounds_12 0 rfl rfl)
theorem dX48_rounds_285 : decode cX48_rounds 285 = .ok (.iconst 0, 1) := dk_3 (dk_at dksX48_rounds_12 3 rfl rfl)
theorem dX48_rounds_286 : decode cX48_rounds 286 = .ok (.laload, 1) := dk_47 (dk_at dksX48_rounds_12 4 rfl rfl)
theorem dX48_rounds_287 : decode cX48_rounds 287 = .ok (.l2i, 1) := dk_136 (dk_at dksX48_rounds_12 5 rfl rfl)
theorem dX48_rounds_288 : decode cX48_rounds 288 = .ok (.invokevirtual 674, 3) := dk_182 2 162 (dk_at dksX48_rounds_12 6 rfl rfl)
theorem dX48_rounds_291 : decode cX48_rounds 291 = .ok (.i2l, 1) := dk_133 (dk_at dksX48_rounds_12 9 rfl rfl)
theorem dX48_rounds_292 : decode cX48_rounds 292 = .ok (.goto 4, 3) := dk_167 0 4 (dk_at dksX48_rounds_12 10 rfl rfl)
theorem dX48_rounds_295 : decode cX48_rounds 295 = .ok (.lconst 0, 1) := dk_9 (dk_at dksX48_rounds_12 13 rfl rfl)
theorem dX48_rounds_296 : decode cX48_rounds 296 = .ok (.lreturn, 1) := dk_173 (dk_at dksX48_rounds_12 14 rfl rfl)
theorem dX48_rounds_297 : decode cX48_rounds 297 = .ok (.aload_n 0, 1) := dk_42 (dk_at dksX48_rounds_12 15 rfl rfl)
theorem dX48_rounds_298 : decode cX48_rounds 298 = .ok (.ldc_w 676, 3) := dk_19 2 164 (dk_at dksX48_rounds_12 16 rfl rfl)
theorem dX48_rounds_301 : decode cX48_rounds 301 = .ok (.ldc_w 272, 3) := dk_19 1 16 (dk_at dksX48_rounds_12 19 rfl rfl)
theorem dX48_rounds_304 : decode cX48_rounds 304 = .ok (.invokevirtual 263, 3) := dk_182 1 7 (dk_at dksX48_rounds_13 0 rfl rfl)
theorem dX48_rounds_307 : decode cX48_rounds 307 = .ok (.ifCond .eq 23, 3) := dk_153 0 23 (dk_at dksX48_rounds_13 3 rfl rfl)
theorem dX48_rounds_310 : decode cX48_rounds 310 = .ok (.aload_n 0, 1) := dk_42 (dk_at dksX48_rounds_13 6 rfl rfl)
theorem dX48_rounds_311 : decode cX48_rounds 311 = .ok (.getfield 167, 3) := dk_180 0 167 (dk_at dksX48_rounds_13 7 rfl rfl)
theorem dX48_rounds_314 : decode cX48_rounds 314 = .ok (.ifCond .ge 14, 3) := dk_156 0 14 (dk_at dksX48_rounds_13 10 rfl rfl)
theorem dX48_rounds_317 : decode cX48_rounds 317 = .ok (.aload_n 0, 1) := dk_42 (dk_at dksX48_rounds_13 13 rfl rfl)
theorem dX48_rounds_318 : decode cX48_rounds 318 = .ok (.getfield 35, 3) := dk_180 0 35 (dk_at dksX48_rounds_13 14 rfl rfl)
theorem dX48_rounds_321 : decode cX48_rounds 321 = .ok (.invokevirtual 678, 3) := dk_182 2 166 (dk_at dksX48_rounds_13 17 rfl rfl)
theorem dX48_rounds_324 : decode cX48_rounds 324 = .ok (.i2l, 1) := dk_133 (dk_at dksX48_rounds_13 20 rfl rfl)
theorem dX48_rounds_325 : decode cX48_rounds 325 = .ok (.goto 4, 3) := dk_167 0 4 (dk_at dksX48_rounds_13 21 rfl rfl)
theorem dX48_rounds_328 : decode cX48_rounds 328 = .ok (.lconst 0, 1) := dk_9 (dk_at dksX48_rounds_14 0 rfl rfl)
theorem dX48_rounds_329 : decode cX48_rounds 329 = .ok (.lreturn, 1) := dk_173 (dk_at dksX48_rounds_14 1 rfl rfl)
theorem dX48_rounds_330 : decode cX48_rounds 330 = .ok (.aload_n 0, 1) := dk_42 (dk_at dksX48_rounds_14 2 rfl rfl)
theorem dX48_rounds_331 : decode cX48_rounds 331 = .ok (.ldc_w 680, 3) := dk_19 2 168 (dk_at dksX48_rounds_14 3 rfl rfl)
theorem dX48_rounds_334 : decode cX48_rounds 334 = .ok (.ldc_w 272, 3) := dk_19 1 16 (dk_at dksX48_rounds_14 6 rfl rfl)
theorem dX48_rounds_337 : decode cX48_rounds 337 = .ok (.invokevirtual 263, 3) := dk_182 1 7 (dk_at dksX48_rounds_14 9 rfl rfl)
theorem dX48_rounds_340 : decode cX48_rounds 340 = .ok (.ifCond .eq 23, 3) := dk_153 0 23 (dk_at dksX48_rounds_14 12 rfl rfl)
theorem dX48_rounds_343 : decode cX48_rounds 343 = .ok (.aload_n 0, 1) := dk_42 (dk_at dksX48_rounds_14 15 rfl rfl)
theorem dX48_rounds_344 : decode cX48_rounds 344 = .ok (.getfield 167, 3) := dk_180 0 167 (dk_at dksX48_rounds_14 16 rfl rfl)
theorem dX48_rounds_347 : decode cX48_rounds 347 = .ok (.ifCond .ge 14, 3) := dk_156 0 14 (dk_at dksX48_rounds_14 19 rfl rfl)
theorem dX48_rounds_350 : decode cX48_rounds 350 = .ok (.aload_n 0, 1) := dk_42 (dk_at dksX48_rounds_14 22 rfl rfl)
theorem dX48_rounds_351 : decode cX48_rounds 351 = .ok (.getfield 35, 3) := dk_180 0 35 (dk_at dksX48_rounds_15 0 rfl rfl)
theorem dX48_rounds_354 : decode cX48_rounds 354 = .ok (.invokevirtual 682, 3) := dk_182 2 170 (dk_at dksX48_rounds_15 3 rfl rfl)
theorem dX48_rounds_357 : decode cX48_rounds 357 = .ok (.i2l, 1) := dk_133 (dk_at dksX48_rounds_15 6 rfl rfl)
theorem dX48_rounds_358 : decode cX48_rounds 358 = .ok (.goto 4, 3) := dk_167 0 4 (dk_at dksX48_rounds_15 7 rfl rfl)
theorem dX48_rounds_361 : decode cX48_rounds 361 = .ok (.lconst 0, 1) := dk_9 (dk_at dksX48_rounds_15 10 rfl rfl)
theorem dX48_rounds_362 : decode cX48_rounds 362 = .ok (.lreturn, 1) := dk_173 (dk_at dksX48_rounds_15 11 rfl rfl)
theorem dX48_rounds_363 : decode cX48_rounds 363 = .ok (.aload_n 0, 1) := dk_42 (dk_at dksX48_rounds_15 12 rfl rfl)
theorem dX48_rounds_364 : decode cX48_rounds 364 = .ok (.ldc_w 684, 3) := dk_19 2 172 (dk_at dksX48_rounds_15 13 rfl rfl)
theorem dX48_rounds_367 : decode cX48_rounds 367 = .ok (.ldc_w 292, 3) := dk_19 1 36 (dk_at dksX48_rounds_15 16 rfl rfl)
theorem dX48_rounds_370 : decode cX48_rounds 370 = .ok (.invokevirtual 263, 3) := dk_182 1 7 (dk_at dksX48_rounds_15 19 rfl rfl)
theorem dX48_rounds_373 : decode cX48_rounds 373 = .ok (.ifCond .eq 37, 3) := dk_153 0 37 (dk_at dksX48_rounds_16 0 rfl rfl)
theorem dX48_rounds_376 : decode cX48_rounds 376 = .ok (.aload_n 0, 1) := dk_42 (dk_at dksX48_rounds_16 3 rfl rfl)
theorem dX48_rounds_377 : decode cX48_rounds 377 = .ok (.getfield 167, 3) := dk_180 0 167 (dk_at dksX48_rounds_16 4 rfl rfl)
theorem dX48_rounds_380 : decode cX48_rounds 380 = .ok (.ifCond .ge 28, 3) := dk_156 0 28 (dk_at dksX48_rounds_16 7 rfl rfl)
theorem dX48_rounds_383 : decode cX48_rounds 383 = .ok (.aload_n 0, 1) := dk_42 (dk_at dksX48_rounds_16 10 rfl rfl)
theorem dX48_rounds_384 : decode cX48_rounds 384 = .ok (.getfield 35, 3) := dk_180 0 35 (dk_at dksX48_rounds_16 11 rfl rfl)
theorem dX48_rounds_387 : decode cX48_rounds 387 = .ok (.aload_n 0, 1) := dk_42 (dk_at dksX48_rounds_16 14 rfl rfl)
theorem dX48_rounds_388 : decode cX48_rounds 388 = .ok (.getfield 99, 3) := dk_180 0 99 (dk_at dksX48_rounds_16 15 rfl rfl)
theorem dX48_rounds_391 : decode cX48_rounds 391 = .ok (.iconst 0, 1) := dk_3 (dk_at dksX48_rounds_16 18 rfl rfl)
theorem dX48_rounds_392 : decode cX48_rounds 392 = .ok (.laload, 1) := dk_47 (dk_at dksX48_rounds_16 19 rfl rfl)
theorem dX48_rounds_393 : decode cX48_rounds 393 = .ok (.l2i, 1) := dk_136 (dk_at dksX48_rounds_16 20 rfl rfl)
theorem dX48_rounds_394 : decode cX48_rounds 394 = .ok (.aload_n 0, 1) := dk_42 (dk_at dksX48_rounds_16 21 rfl rfl)
theorem dX48_rounds_395 : decode cX48_rounds 395 = .ok (.getfield 99, 3) := dk_180 0 99 (dk_at dksX48_rounds_17 0 rfl rfl)
theorem dX48_rounds_398 : decode cX48_rounds 398 = .ok (.iconst 1, 1) := dk_4 (dk_at dksX48_rounds_17 3 rfl rfl)
theorem dX48_rounds_399 : decode cX48_rounds 399 = .ok (.laload, 1) := dk_47 (dk_at dksX48_rounds_17 4 rfl rfl)
theorem dX48_rounds_400 : decode cX48_rounds 400 = .ok (.l2i, 1) := dk_136 (dk_at dksX48_rounds_17 5 rfl rfl)
theorem dX48_rounds_401 : decode cX48_rounds 401 = .ok (.invokevirtual 686, 3) := dk_182 2 174 (dk_at dksX48_rounds_17 6 rfl rfl)
theorem dX48_rounds_404 : decode cX48_rounds 404 = .ok (.i2l, 1) := dk_133 (dk_at dksX48_rounds_17 9 rfl rfl)
theorem dX48_rounds_405 : decode cX48_rounds 405 = .ok (.goto 4, 3) := dk_167 0 4 (dk_at dksX48_rounds_17 10 rfl rfl)
theorem dX48_rounds_408 : decode cX48_rounds 408 = .ok (.lconst 0, 1) := dk_9 (dk_at dksX48_rounds_17 13 rfl rfl)
theorem dX48_rounds_409 : decode cX48_rounds 409 = .ok (.lreturn, 1) := dk_173 (dk_at dksX48_rounds_17 14 rfl rfl)
theorem dX48_rounds_410 : decode cX48_rounds 410 = .ok (.aload_n 0, 1) := dk_42 (dk_at dksX48_rounds_17 15 rfl rfl)
theorem dX48_rounds_411 : decode cX48_rounds 411 = .ok (.ldc_w 688, 3) := dk_19 2 176 (dk_at dksX48_rounds_17 16 rfl rfl)
theorem dX48_rounds_414 : decode cX48_rounds 414 = .ok (.ldc_w 278, 3) := dk_19 1 22 (dk_at dksX48_rounds_17 19 rfl rfl)
theorem dX48_rounds_417 : decode cX48_rounds 417 = .ok (.invokevirtual 263, 3) := dk_182 1 7 (dk_at dksX48_rounds_18 0 rfl rfl)
theorem dX48_rounds_420 : decode cX48_rounds 420 = .ok (.ifCond .eq 29, 3) := dk_153 0 29 (dk_at dksX48_rounds_18 3 rfl rfl)
theorem dX48_rounds_423 : decode cX48_rounds 423 = .ok (.aload_n 0, 1) := dk_42 (dk_at dksX48_rounds_18 6 rfl rfl)
theorem dX48_rounds_424 : decode cX48_rounds 424 = .ok (.getfield 167, 3) := dk_180 0 167 (dk_at dksX48_rounds_18 7 rfl rfl)
theorem dX48_rounds_427 : decode cX48_rounds 427 = .ok (.ifCond .ge 20, 3) := dk_156 0 20 (dk_at dksX48_rounds_18 10 rfl rfl)
theorem dX48_rounds_430 : decode cX48_rounds 430 = .ok (.aload_n 0, 1) := dk_42 (dk_at dksX48_rounds_18 13 rfl rfl)
theorem dX48_rounds_431 : decode cX48_rounds 431 = .ok (.getfield 35, 3) := dk_180 0 35 (dk_at dksX48_rounds_18 14 rfl rfl)
theorem dX48_rounds_434 : decode cX48_rounds 434 = .ok (.aload_n 0, 1) := dk_42 (dk_at dksX48_rounds_18 17 rfl rfl)
theorem dX48_rounds_435 : decode cX48_rounds 435 = .ok (.getfield 99, 3) := dk_180 0 99 (dk_at dksX48_rounds_18 18 rfl rfl)
theorem dX48_rounds_438 : decode cX48_rounds 438 = .ok (.iconst 0, 1) := dk_3 (dk_at dksX48_rounds_18 21 rfl rfl)
theorem dX48_rounds_439 : decode cX48_rounds 439 = .ok (.laload, 1) := dk_47 (dk_at dksX48_rounds_18 22 rfl rfl)
theorem dX48_rounds_440 : decode cX48_rounds 440 = .ok (.l2i, 1) := dk_136 (dk_at dksX48_rounds_18 23 rfl rfl)
theorem dX48_rounds_441 : decode cX48_rounds 441 = .ok (.invokevirtual 690, 3) := dk_182 2 178 (dk_at dksX48_rounds_19 0 rfl rfl)
theorem dX48_rounds_444 : decode cX48_rounds 444 = .ok (.goto 4, 3) := dk_167 0 4 (dk_at dksX48_rounds_19 3 rfl rfl)
theorem dX48_rounds_447 : decode cX48_rounds 447 = .ok (.lconst 0, 1) := dk_9 (dk_at dksX48_rounds_19 6 rfl rfl)
theorem dX48_rounds_448 : decode cX48_rounds 448 = .ok (.lreturn, 1) := dk_173 (dk_at dksX48_rounds_19 7 rfl rfl)
theorem dX48_rounds_449 : decode cX48_rounds 449 = .ok (.aload_n 0, 1) := dk_42 (dk_at dksX48_rounds_19 8 rfl rfl)
theorem dX48_rounds_450 : decode cX48_rounds 450 = .ok (.ldc_w 692, 3) := dk_19 2 180 (dk_at dksX48_rounds_19 9 rfl rfl)
theorem dX48_rounds_453 : decode cX48_rounds 453 = .ok (.ldc_w 292, 3) := dk_19 1 36 (dk_at dksX48_rounds_19 12 rfl rfl)
theorem dX48_rounds_456 : decode cX48_rounds 456 = .ok (.invokevirtual 263, 3) := dk_182 1 7 (dk_at dksX48_rounds_19 15 rfl rfl)
theorem dX48_rounds_459 : decode cX48_rounds 459 = .ok (.ifCond .eq 36, 3) := dk_153 0 36 (dk_at dksX48_rounds_19 18 rfl rfl)
theorem dX48_rounds_462 : decode cX48_rounds 462 = .ok (.aload_n 0, 1) := dk_42 (dk_at dksX48_rounds_19 21 rfl rfl)
theorem dX48_rounds_463 : decode cX48_rounds 463 = .ok (.getfield 167, 3) := dk_180 0 167 (dk_at dksX48_rounds_20 0 rfl rfl)
theorem dX48_rounds_466 : decode cX48_rounds 466 = .ok (.ifCond .ge 27, 3) := dk_156 0 27 (dk_at dksX48_rounds_20 3 rfl rfl)
theorem dX48_rounds_469 : decode cX48_rounds 469 = .ok (.aload_n 0, 1) := dk_42 (dk_at dksX48_rounds_20 6 rfl rfl)
theorem dX48_rounds_470 : decode cX48_rounds 470 = .ok (.getfield 35, 3) := dk_180 0 35 (dk_at dksX48_rounds_20 7 rfl rfl)
theorem dX48_rounds_473 : decode cX48_rounds 473 = .ok (.aload_n 0, 1) := dk_42 (dk_at dksX48_rounds_20 10 rfl rfl)
theorem dX48_rounds_474 : decode cX48_rounds 474 = .ok (.getfield 99, 3) := dk_180 0 99 (dk_at dksX48_rounds_20 11 rfl rfl)
theorem dX48_rounds_477 : decode cX48_rounds 477 = .ok (.iconst 0, 1) := dk_3 (dk_at dksX48_rounds_20 14 rfl rfl)
theorem dX48_rounds_478 : decode cX48_rounds 478 = .ok (.laload, 1) := dk_47 (dk_at dksX48_rounds_20 15 rfl rfl)
theorem dX48_rounds_479 : decode cX48_rounds 479 = .ok (.l2i, 1) := dk_136 (dk_at dksX48_rounds_20 16 rfl rfl)
theorem dX48_rounds_480 : decode cX48_rounds 480 = .ok (.aload_n 0, 1) := dk_42 (dk_at dksX48_rounds_20 17 rfl rfl)
theorem dX48_rounds_481 : decode cX48_rounds 481 = .ok (.getfield 99, 3) := dk_180 0 99 (dk_at dksX48_rounds_20 18 rfl rfl)
theorem dX48_rounds_484 : decode cX48_rounds 484 = .ok (.iconst 1, 1) := dk_4 (dk_at dksX48_rounds_20 21 rfl rfl)
theorem dX48_rounds_485 : decode cX48_rounds 485 = .ok (.laload, 1) := dk_47 (dk_at dksX48_rounds_20 22 rfl rfl)
theorem dX48_rounds_486 : decode cX48_rounds 486 = .ok (.l2i, 1) := dk_136 (dk_at dksX48_rounds_20 23 rfl rfl)
theorem dX48_rounds_487 : decode cX48_rounds 487 = .ok (.invokevirtual 694, 3) := dk_182 2 182 (dk_at dksX48_rounds_21 0 rfl rfl)
theorem dX48_rounds_490 : decode cX48_rounds 490 = .ok (.goto 4, 3) := dk_167 0 4 (dk_at dksX48_rounds_21 3 rfl rfl)
theorem dX48_rounds_493 : decode cX48_rounds 493 = .ok (.lconst 0, 1) := dk_9 (dk_at dksX48_rounds_21 6 rfl rfl)
theorem dX48_rounds_494 : decode cX48_rounds 494 = .ok (.lreturn, 1) := dk_173 (dk_at dksX48_rounds_21 7 rfl rfl)
theorem dX48_rounds_495 : decode cX48_rounds 495 = .ok (.aload_n 0, 1) := dk_42 (dk_at dksX48_rounds_21 8 rfl rfl)
theorem dX48_rounds_496 : decode cX48_rounds 496 = .ok (.ldc_w 696, 3) := dk_19 2 184 (dk_at dksX48_rounds_21 9 rfl rfl)
theorem dX48_rounds_499 : decode cX48_rounds 499 = .ok (.ldc_w 292, 3) := dk_19 1 36 (dk_at dksX48_rounds_21 12 rfl rfl)
theorem dX48_rounds_502 : decode cX48_rounds 502 = .ok (.invokevirtual 263, 3) := dk_182 1 7 (dk_at dksX48_rounds_21 15 rfl rfl)
theorem dX48_rounds_505 : decode cX48_rounds 505 = .ok (.ifCond .eq 36, 3) := dk_153 0 36 (dk_at dksX48_rounds_21 18 rfl rfl)
theorem dX48_rounds_508 : decode cX48_rounds 508 = .ok (.aload_n 0, 1) := dk_42 (dk_at dksX48_rounds_21 21 rfl rfl)
theorem dX48_rounds_509 : decode cX48_rounds 509 = .ok (.getfield 167, 3) := dk_180 0 167 (dk_at dksX48_rounds_22 0 rfl rfl)
theorem dX48_rounds_512 : decode cX48_rounds 512 = .ok (.ifCond .ge 27, 3) := dk_156 0 27 (dk_at dksX48_rounds_22 3 rfl rfl)
theorem dX48_rounds_515 : decode cX48_rounds 515 = .ok (.aload_n 0, 1) := dk_42 (dk_at dksX48_rounds_22 6 rfl rfl)
theorem dX48_rounds_516 : decode cX48_rounds 516 = .ok (.getfield 35, 3) := dk_180 0 35 (dk_at dksX48_rounds_22 7 rfl rfl)
theorem dX48_rounds_519 : decode cX48_rounds 519 = .ok (.aload_n 0, 1) := dk_42 (dk_at dksX48_rounds_22 10 rfl rfl)
theorem dX48_rounds_520 : decode cX48_rounds 520 = .ok (.getfield 99, 3) := dk_180 0 99 (dk_at dksX48_rounds_22 11 rfl rfl)
theorem dX48_rounds_523 : decode cX48_rounds 523 = .ok (.iconst 0, 1) := dk_3 (dk_at dksX48_rounds_22 14 rfl rfl)
theorem dX48_rounds_524 : decode cX48_rounds 524 = .ok (.laload, 1) := dk_47 (dk_at dksX48_rounds_22 15 rfl rfl)
theorem dX48_rounds_525 : decode cX48_rounds 525 = .ok (.l2i, 1) := dk_136 (dk_at dksX48_rounds_22 16 rfl rfl)
theorem dX48_rounds_526 : decode cX48_rounds 526 = .ok (.aload_n 0, 1) := dk_42 (dk_at dksX48_rounds_22 17 rfl rfl)
theorem dX48_rounds_527 : decode cX48_rounds 527 = .ok (.getfield 99, 3) := dk_180 0 99 (dk_at dksX48_rounds_22 18 rfl rfl)
theorem dX48_rounds_530 : decode cX48_rounds 530 = .ok (.iconst 1, 1) := dk_4 (dk_at dksX48_rounds_22 21 rfl rfl)
theorem dX48_rounds_531 : decode cX48_rounds 531 = .ok (.laload, 1) := dk_47 (dk_at dksX48_rounds_22 22 rfl rfl)
theorem dX48_rounds_532 : decode cX48_rounds 532 = .ok (.l2i, 1) := dk_136 (dk_at dksX48_rounds_22 23 rfl rfl)
theorem dX48_rounds_533 : decode cX48_rounds 533 = .ok (.invokevirtual 698, 3) := dk_182 2 186 (dk_at dksX48_rounds_23 0 rfl rfl)
theorem dX48_rounds_536 : decode cX48_rounds 536 = .ok (.goto 4, 3) := dk_167 0 4 (dk_at dksX48_rounds_23 3 rfl rfl)
theorem dX48_rounds_539 : decode cX48_rounds 539 = .ok (.lconst 0, 1) := dk_9 (dk_at dksX48_rounds_23 6 rfl rfl)
theorem dX48_rounds_540 : decode cX48_rounds 540 = .ok (.lreturn, 1) := dk_173 (dk_at dksX48_rounds_23 7 rfl rfl)
theorem dX48_rounds_541 : decode cX48_rounds 541 = .ok (.aload_n 0, 1) := dk_42 (dk_at dksX48_rounds_23 8 rfl rfl)
theorem dX48_rounds_542 : decode cX48_rounds 542 = .ok (.ldc_w 492, 3) := dk_19 1 236 (dk_at dksX48_rounds_23 9 rfl rfl)
theorem dX48_rounds_545 : decode cX48_rounds 545 = .ok (.ldc_w 292, 3) := dk_19 1 36 (dk_at dksX48_rounds_23 12 rfl rfl)
theorem dX48_rounds_548 : decode cX48_rounds 548 = .ok (.invokevirtual 263, 3) := dk_182 1 7 (dk_at dksX48_rounds_23 15 rfl rfl)
theorem dX48_rounds_551 : decode cX48_rounds 551 = .ok (.ifCond .eq 36, 3) := dk_153 0 36 (dk_at dksX48_rounds_23 18 rfl rfl)
theorem dX48_rounds_554 : decode cX48_rounds 554 = .ok (.aload_n 0, 1) := dk_42 (dk_at dksX48_rounds_23 21 rfl rfl)
theorem dX48_rounds_555 : decode cX48_rounds 555 = .ok (.getfield 167, 3) := dk_180 0 167 (dk_at dksX48_rounds_24 0 rfl rfl)
theorem dX48_rounds_558 : decode cX48_rounds 558 = .ok (.ifCond .ge 27, 3) := dk_156 0 27 (dk_at dksX48_rounds_24 3 rfl rfl)
theorem dX48_rounds_561 : decode cX48_rounds 561 = .ok (.aload_n 0, 1) := dk_42 (dk_at dksX48_rounds_24 6 rfl rfl)
theorem dX48_rounds_562 : decode cX48_rounds 562 = .ok (.getfield 35, 3) := dk_180 0 35 (dk_at dksX48_rounds_24 7 rfl rfl)
theorem dX48_rounds_565 : decode cX48_rounds 565 = .ok (.aload_n 0, 1) := dk_42 (dk_at dksX48_rounds_24 10 rfl rfl)
theorem dX48_rounds_566 : decode cX48_rounds 566 = .ok (.getfield 99, 3) := dk_180 0 99 (dk_at dksX48_rounds_24 11 rfl rfl)
theorem dX48_rounds_569 : decode cX48_rounds 569 = .ok (.iconst 0, 1) := dk_3 (dk_at dksX48_rounds_24 14 rfl rfl)
theorem dX48_rounds_570 : decode cX48_rounds 570 = .ok (.laload, 1) := dk_47 (dk_at dksX48_rounds_24 15 rfl rfl)
theorem dX48_rounds_571 : decode cX48_rounds 571 = .ok (.l2i, 1) := dk_136 (dk_at dksX48_rounds_24 16 rfl rfl)
theorem dX48_rounds_572 : decode cX48_rounds 572 = .ok (.aload_n 0, 1) := dk_42 (dk_at dksX48_rounds_24 17 rfl rfl)
theorem dX48_rounds_573 : decode cX48_rounds 573 = .ok (.getfield 99, 3) := dk_180 0 99 (dk_at dksX48_rounds_24 18 rfl rfl)
theorem dX48_rounds_576 : decode cX48_rounds 576 = .ok (.iconst 1, 1) := dk_4 (dk_at dksX48_rounds_24 21 rfl rfl)
theorem dX48_rounds_577 : decode cX48_rounds 577 = .ok (.laload, 1) := dk_47 (dk_at dksX48_rounds_24 22 rfl rfl)
theorem dX48_rounds_578 : decode cX48_rounds 578 = .ok (.l2i, 1) := dk_136 (dk_at dksX48_rounds_24 23 rfl rfl)
theorem dX48_rounds_579 : decode cX48_rounds 579 = .ok (.invokevirtual 700, 3) := dk_182 2 188 (dk_at dksX48_rounds_25 0 rfl rfl)
theorem dX48_rounds_582 : decode cX48_rounds 582 = .ok (.goto 4, 3) := dk_167 0 4 (dk_at dksX48_rounds_25 3 rfl rfl)
theorem dX48_rounds_585 : decode cX48_rounds 585 = .ok (.lconst 0, 1) := dk_9 (dk_at dksX48_rounds_25 6 rfl rfl)
theorem dX48_rounds_586 : decode cX48_rounds 586 = .ok (.lreturn, 1) := dk_173 (dk_at dksX48_rounds_25 7 rfl rfl)
theorem dX48_rounds_587 : decode cX48_rounds 587 = .ok (.aload_n 0, 1) := dk_42 (dk_at dksX48_rounds_25 8 rfl rfl)
theorem dX48_rounds_588 : decode cX48_rounds 588 = .ok (.ldc_w 701, 3) := dk_19 2 189 (dk_at dksX48_rounds_25 9 rfl rfl)
theorem dX48_rounds_591 : decode cX48_rounds 591 = .ok (.ldc_w 278, 3) := dk_19 1 22 (dk_at dksX48_rounds_25 12 rfl rfl)
theorem dX48_rounds_594 : decode cX48_rounds 594 = .ok (.invokevirtual 263, 3) := dk_182 1 7 (dk_at dksX48_rounds_25 15 rfl rfl)
theorem dX48_rounds_597 : decode cX48_rounds 597 = .ok (.ifCond .eq 32, 3) := dk_153 0 32 (dk_at dksX48_rounds_25 18 rfl rfl)
theorem dX48_rounds_600 : decode cX48_rounds 600 = .ok (.aload_n 0, 1) := dk_42 (dk_at dksX48_rounds_25 21 rfl rfl)
theorem dX48_rounds_601 : decode cX48_rounds 601 = .ok (.getfield 167, 3) := dk_180 0 167 (dk_at dksX48_rounds_26 0 rfl rfl)
theorem dX48_rounds_604 : decode cX48_rounds 604 = .ok (.ifCond .ge 23, 3) := dk_156 0 23 (dk_at dksX48_rounds_26 3 rfl rfl)
theorem dX48_rounds_607 : decode cX48_rounds 607 = .ok (.aload_n 0, 1) := dk_42 (dk_at dksX48_rounds_26 6 rfl rfl)
theorem dX48_rounds_608 : decode cX48_rounds 608 = .ok (.getfield 35, 3) := dk_180 0 35 (dk_at dksX48_rounds_26 7 rfl rfl)
theorem dX48_rounds_611 : decode cX48_rounds 611 = .ok (.aload_n 0, 1) := dk_42 (dk_at dksX48_rounds_26 10 rfl rfl)
theorem dX48_rounds_612 : decode cX48_rounds 612 = .ok (.getfield 99, 3) := dk_180 0 99 (dk_at dksX48_rounds_26 11 rfl rfl)
theorem dX48_rounds_615 : decode cX48_rounds 615 = .ok (.iconst 0, 1) := dk_3 (dk_at dksX48_rounds_26 14 rfl rfl)
theorem dX48_rounds_616 : decode cX48_rounds 616 = .ok (.laload, 1) := dk_47 (dk_at dksX48_rounds_26 15 rfl rfl)
theorem dX48_rounds_617 : decode cX48_rounds 617 = .ok (.l2i, 1) := dk_136 (dk_at dksX48_rounds_26 16 rfl rfl)
theorem dX48_rounds_618 : decode cX48_rounds 618 = .ok (.invokevirtual 703, 3) := dk_182 2 191 (dk_at dksX48_rounds_26 17 rfl rfl)
theorem dX48_rounds_621 : decode cX48_rounds 621 = .ok (.invokestatic 328, 3) := dk_184 1 72 (dk_at dksX48_rounds_26 20 rfl rfl)
theorem dX48_rounds_624 : decode cX48_rounds 624 = .ok (.goto 4, 3) := dk_167 0 4 (dk_at dksX48_rounds_27 0 rfl rfl)
theorem dX48_rounds_627 : decode cX48_rounds 627 = .ok (.lconst 0, 1) := dk_9 (dk_at dksX48_rounds_27 3 rfl rfl)
theorem dX48_rounds_628 : decode cX48_rounds 628 = .ok (.lreturn, 1) := dk_173 (dk_at dksX48_rounds_27 4 rfl rfl)
theorem dX48_rounds_629 : decode cX48_rounds 629 = .ok (.aload_n 0, 1) := dk_42 (dk_at dksX48_rounds_27 5 rfl rfl)
theorem dX48_rounds_630 : decode cX48_rounds 630 = .ok (.ldc_w 705, 3) := dk_19 2 193 (dk_at dksX48_rounds_27 6 rfl rfl)
theorem dX48_rounds_633 : decode cX48_rounds 633 = .ok (.ldc_w 272, 3) := dk_19 1 16 (dk_at dksX48_rounds_27 9 rfl rfl)
theorem dX48_rounds_636 : decode cX48_rounds 636 = .ok (.invokevirtual 263, 3) := dk_182 1 7 (dk_at dksX48_rounds_27 12 rfl rfl)
theorem dX48_rounds_639 : decode cX48_rounds 639 = .ok (.ifCond .eq 23, 3) := dk_153 0 23 (dk_at dksX48_rounds_27 15 rfl rfl)
theorem dX48_rounds_642 : decode cX48_rounds 642 = .ok (.aload_n 0, 1) := dk_42 (dk_at dksX48_rounds_27 18 rfl rfl)
theorem dX48_rounds_643 : decode cX48_rounds 643 = .ok (.getfield 167, 3) := dk_180 0 167 (dk_at dksX48_rounds_27 19 rfl rfl)
theorem dX48_rounds_646 : decode cX48_rounds 646 = .ok (.ifCond .ge 14, 3) := dk_156 0 14 (dk_at dksX48_rounds_28 0 rfl rfl)
theorem dX48_rounds_649 : decode cX48_rounds 649 = .ok (.aload_n 0, 1) := dk_42 (dk_at dksX48_rounds_28 3 rfl rfl)
theorem dX48_rounds_650 : decode cX48_rounds 650 = .ok (.getfield 35, 3) := dk_180 0 35 (dk_at dksX48_rounds_28 4 rfl rfl)
theorem dX48_rounds_653 : decode cX48_rounds 653 = .ok (.invokevirtual 707, 3) := dk_182 2 195 (dk_at dksX48_rounds_28 7 rfl rfl)
theorem dX48_rounds_656 : decode cX48_rounds 656 = .ok (.i2l, 1) := dk_133 (dk_at dksX48_rounds_28 10 rfl rfl)
theorem dX48_rounds_657 : decode cX48_rounds 657 = .ok (.goto 4, 3) := dk_167 0 4 (dk_at dksX48_rounds_28 11 rfl rfl)
theorem dX48_rounds_660 : decode cX48_rounds 660 = .ok (.lconst 0, 1) := dk_9 (dk_at dksX48_rounds_28 14 rfl rfl)
theorem dX48_rounds_661 : decode cX48_rounds 661 = .ok (.lreturn, 1) := dk_173 (dk_at dksX48_rounds_28 15 rfl rfl)
theorem dX48_rounds_662 : decode cX48_rounds 662 = .ok (.aload_n 0, 1) := dk_42 (dk_at dksX48_rounds_28 16 rfl rfl)
theorem dX48_rounds_663 : decode cX48_rounds 663 = .ok (.ldc_w 709, 3) := dk_19 2 197 (dk_at dksX48_rounds_28 17 rfl rfl)
theorem dX48_rounds_666 : decode cX48_rounds 666 = .ok (.ldc_w 292, 3) := dk_19 1 36 (dk_at dksX48_rounds_28 20 rfl rfl)
theorem dX48_rounds_669 : decode cX48_rounds 669 = .ok (.invokevirtual 263, 3) := dk_182 1 7 (dk_at dksX48_rounds_29 0 rfl rfl)
theorem dX48_rounds_672 : decode cX48_rounds 672 = .ok (.ifCond .eq 37, 3) := dk_153 0 37 (dk_at dksX48_rounds_29 3 rfl rfl)
theorem dX48_rounds_675 : decode cX48_rounds 675 = .ok (.aload_n 0, 1) := dk_42 (dk_at dksX48_rounds_29 6 rfl rfl)
theorem dX48_rounds_676 : decode cX48_rounds 676 = .ok (.getfield 167, 3) := dk_180 0 167 (dk_at dksX48_rounds_29 7 rfl rfl)
theorem dX48_rounds_679 : decode cX48_rounds 679 = .ok (.ifCond .ge 28, 3) := dk_156 0 28 (dk_at dksX48_rounds_29 10 rfl rfl)
theorem dX48_rounds_682 : decode cX48_rounds 682 = .ok (.aload_n 0, 1) := dk_42 (dk_at dksX48_rounds_29 13 rfl rfl)
theorem dX48_rounds_683 : decode cX48_rounds 683 = .ok (.getfield 35, 3) := dk_180 0 35 (dk_at dksX48_rounds_29 14 rfl rfl)
theorem dX48_rounds_686 : decode cX48_rounds 686 = .ok (.aload_n 0, 1) := dk_42 (dk_at dksX48_rounds_29 17 rfl rfl)
theorem dX48_rounds_687 : decode cX48_rounds 687 = .ok (.getfield 99, 3) := dk_180 0 99 (dk_at dksX48_rounds_29 18 rfl rfl)
theorem dX48_rounds_690 : decode cX48_rounds 690 = .ok (.iconst 0, 1) := dk_3 (dk_at dksX48_rounds_29 21 rfl rfl)
theorem dX48_rounds_691 : decode cX48_rounds 691 = .ok (.laload, 1) := dk_47 (dk_at dksX48_rounds_29 22 rfl rfl)
theorem dX48_rounds_692 : decode cX48_rounds 692 = .ok (.l2i, 1) := dk_136 (dk_at dksX48_rounds_29 23 rfl rfl)
theorem dX48_rounds_693 : decode cX48_rounds 693 = .ok (.aload_n 0, 1) := dk_42 (dk_at dksX48_rounds_30 0 rfl rfl)
theorem dX48_rounds_694 : decode cX48_rounds 694 = .ok (.getfield 99, 3) := dk_180 0 99 (dk_at dksX48_rounds_30 1 rfl rfl)
theorem dX48_rounds_697 : decode cX48_rounds 697 = .ok (.iconst 1, 1) := dk_4 (dk_at dksX48_rounds_30 4 rfl rfl)
theorem dX48_rounds_698 : decode cX48_rounds 698 = .ok (.laload, 1) := dk_47 (dk_at dksX48_rounds_30 5 rfl rfl)
theorem dX48_rounds_699 : decode cX48_rounds 699 = .ok (.l2i, 1) := dk_136 (dk_at dksX48_rounds_30 6 rfl rfl)
theorem dX48_rounds_700 : decode cX48_rounds 700 = .ok (.invokevirtual 711, 3) := dk_182 2 199 (dk_at dksX48_rounds_30 7 rfl rfl)
theorem dX48_rounds_703 : decode cX48_rounds 703 = .ok (.i2l, 1) := dk_133 (dk_at dksX48_rounds_30 10 rfl rfl)
theorem dX48_rounds_704 : decode cX48_rounds 704 = .ok (.goto 4, 3) := dk_167 0 4 (dk_at dksX48_rounds_30 11 rfl rfl)
theorem dX48_rounds_707 : decode cX48_rounds 707 = .ok (.lconst 0, 1) := dk_9 (dk_at dksX48_rounds_30 14 rfl rfl)
theorem dX48_rounds_708 : decode cX48_rounds 708 = .ok (.lreturn, 1) := dk_173 (dk_at dksX48_rounds_30 15 rfl rfl)
theorem dX48_rounds_709 : decode cX48_rounds 709 = .ok (.aload_n 0, 1) := dk_42 (dk_at dksX48_rounds_30 16 rfl rfl)
theorem dX48_rounds_710 : decode cX48_rounds 710 = .ok (.ldc_w 512, 3) := dk_19 2 0 (dk_at dksX48_rounds_30 17 rfl rfl)
theorem dX48_rounds_713 : decode cX48_rounds 713 = .ok (.ldc_w 272, 3) := dk_19 1 16 (dk_at dksX48_rounds_30 20 rfl rfl)
theorem dX48_rounds_716 : decode cX48_rounds 716 = .ok (.invokevirtual 263, 3) := dk_182 1 7 (dk_at dksX48_rounds_31 0 rfl rfl)
theorem dX48_rounds_719 : decode cX48_rounds 719 = .ok (.ifCond .eq 23, 3) := dk_153 0 23 (dk_at dksX48_rounds_31 3 rfl rfl)
theorem dX48_rounds_722 : decode cX48_rounds 722 = .ok (.aload_n 0, 1) := dk_42 (dk_at dksX48_rounds_31 6 rfl rfl)
theorem dX48_rounds_723 : decode cX48_rounds 723 = .ok (.getfield 167, 3) := dk_180 0 167 (dk_at dksX48_rounds_31 7 rfl rfl)
theorem dX48_rounds_726 : decode cX48_rounds 726 = .ok (.ifCond .ge 14, 3) := dk_156 0 14 (dk_at dksX48_rounds_31 10 rfl rfl)
theorem dX48_rounds_729 : decode cX48_rounds 729 = .ok (.aload_n 0, 1) := dk_42 (dk_at dksX48_rounds_31 13 rfl rfl)
theorem dX48_rounds_730 : decode cX48_rounds 730 = .ok (.getfield 35, 3) := dk_180 0 35 (dk_at dksX48_rounds_31 14 rfl rfl)
theorem dX48_rounds_733 : decode cX48_rounds 733 = .ok (.invokevirtual 713, 3) := dk_182 2 201 (dk_at dksX48_rounds_31 17 rfl rfl)
theorem dX48_rounds_736 : decode cX48_rounds 736 = .ok (.i2l, 1) := dk_133 (dk_at dksX48_rounds_31 20 rfl rfl)
theorem dX48_rounds_737 : decode cX48_rounds 737 = .ok (.goto 4, 3) := dk_167 0 4 (dk_at dksX48_rounds_31 21 rfl rfl)
theorem dX48_rounds_740 : decode cX48_rounds 740 = .ok (.lconst 0, 1) := dk_9 (dk_at dksX48_rounds_32 0 rfl rfl)
theorem dX48_rounds_741 : decode cX48_rounds 741 = .ok (.lreturn, 1) := dk_173 (dk_at dksX48_rounds_32 1 rfl rfl)
theorem dX48_rounds_742 : decode cX48_rounds 742 = .ok (.aload_n 0, 1) := dk_42 (dk_at dksX48_rounds_32 2 rfl rfl)
theorem dX48_rounds_743 : decode cX48_rounds 743 = .ok (.ldc_w 715, 3) := dk_19 2 203 (dk_at dksX48_rounds_32 3 rfl rfl)
theorem dX48_rounds_746 : decode cX48_rounds 746 = .ok (.ldc_w 272, 3) := dk_19 1 16 (dk_at dksX48_rounds_32 6 rfl rfl)
theorem dX48_rounds_749 : decode cX48_rounds 749 = .ok (.invokevirtual 263, 3) := dk_182 1 7 (dk_at dksX48_rounds_32 9 rfl rfl)
theorem dX48_rounds_752 : decode cX48_rounds 752 = .ok (.ifCond .eq 25, 3) := dk_153 0 25 (dk_at dksX48_rounds_32 12 rfl rfl)
theorem dX48_rounds_755 : decode cX48_rounds 755 = .ok (.aload_n 0, 1) := dk_42 (dk_at dksX48_rounds_32 15 rfl rfl)
theorem dX48_rounds_756 : decode cX48_rounds 756 = .ok (.getfield 167, 3) := dk_180 0 167 (dk_at dksX48_rounds_32 16 rfl rfl)
theorem dX48_rounds_759 : decode cX48_rounds 759 = .ok (.ifCond .ge 16, 3) := dk_156 0 16 (dk_at dksX48_rounds_32 19 rfl rfl)
theorem dX48_rounds_762 : decode cX48_rounds 762 = .ok (.aload_n 0, 1) := dk_42 (dk_at dksX48_rounds_32 22 rfl rfl)
theorem dX48_rounds_763 : decode cX48_rounds 763 = .ok (.getfield 35, 3) := dk_180 0 35 (dk_at dksX48_rounds_33 0 rfl rfl)
theorem dX48_rounds_766 : decode cX48_rounds 766 = .ok (.invokevirtual 717, 3) := dk_182 2 205 (dk_at dksX48_rounds_33 3 rfl rfl)
theorem dX48_rounds_769 : decode cX48_rounds 769 = .ok (.invokestatic 328, 3) := dk_184 1 72 (dk_at dksX48_rounds_33 6 rfl rfl)
theorem dX48_rounds_772 : decode cX48_rounds 772 = .ok (.goto 4, 3) := dk_167 0 4 (dk_at dksX48_rounds_33 9 rfl rfl)
theorem dX48_rounds_775 : decode cX48_rounds 775 = .ok (.lconst 0, 1) := dk_9 (dk_at dksX48_rounds_33 12 rfl rfl)
theorem dX48_rounds_776 : decode cX48_rounds 776 = .ok (.lreturn, 1) := dk_173 (dk_at dksX48_rounds_33 13 rfl rfl)
theorem dX48_rounds_777 : decode cX48_rounds 777 = .ok (.aload_n 0, 1) := dk_42 (dk_at dksX48_rounds_33 14 rfl rfl)
theorem dX48_rounds_778 : decode cX48_rounds 778 = .ok (.invokevirtual 332, 3) := dk_182 1 76 (dk_at dksX48_rounds_33 15 rfl rfl)
theorem dX48_rounds_781 : decode cX48_rounds 781 = .ok (.lreturn, 1) := dk_173 (dk_at dksX48_rounds_33 18 rfl rfl)
abbrev cX48_store : ByteArray := prog_56_method_42_code
def yX48_store : MethodName := ⟨RX48, "store", "()J"⟩
def dkwX48_store_36 : List UInt8 := [167, 0, 4, 9, 173, 42, 182, 1, 76, 173]
abbrev dktX48_store_36 : List UInt8 := dkwX48_store_36 ++ []
def dkwX48_store_35 : List UInt8 := [182, 1, 7, 153, 0, 25, 42, 180, 0, 167, 156, 0, 16, 42, 180, 0, 42, 182, 0, 240, 184, 1, 72]
abbrev dktX48_store_35 : List UInt8 := dkwX48_store_35 ++ dktX48_store_36
def dkwX48_store_34 : List UInt8 := [42, 180, 0, 99, 4, 47, 182, 3, 19, 133, 167, 0, 4, 9, 173, 42, 19, 2, 63, 19, 1, 16]
abbrev dktX48_store_34 : List UInt8 := dkwX48_store_34 ++ dktX48_store_35
def dkwX48_store_33 : List UInt8 := [182, 1, 7, 153, 0, 36, 42, 180, 0, 167, 156, 0, 27, 42, 180, 0, 42, 42, 180, 0, 99, 3, 47, 136]
abbrev dktX48_store_33 : List UInt8 := dkwX48_store_33 ++ dktX48_store_34
def dkwX48_store_32 : List UInt8 := [42, 180, 0, 99, 4, 47, 136, 182, 3, 15, 133, 167, 0, 4, 9, 173, 42, 19, 3, 17, 19, 1, 28]
abbrev dktX48_store_32 : List UInt8 := dkwX48_store_32 ++ dktX48_store_33
def dkwX48_store_31 : List UInt8 := [182, 1, 7, 153, 0, 37, 42, 180, 0, 167, 156, 0, 28, 42, 180, 0, 42, 42, 180, 0, 99, 3, 47, 136]
abbrev dktX48_store_31 : List UInt8 := dkwX48_store_31 ++ dktX48_store_32
def dkwX48_store_30 : List UInt8 := [42, 180, 0, 99, 3, 47, 136, 182, 3, 11, 133, 167, 0, 4, 9, 173, 42, 19, 3, 13, 19, 1, 36]
abbrev dktX48_store_30 : List UInt8 := dkwX48_store_30 ++ dktX48_store_31
def dkwX48_store_29 : List UInt8 := [42, 19, 3, 9, 19, 1, 22, 182, 1, 7, 153, 0, 30, 42, 180, 0, 167, 156, 0, 21, 42, 180, 0, 42]
abbrev dktX48_store_29 : List UInt8 := dkwX48_store_29 ++ dktX48_store_30
def dkwX48_store_28 : List UInt8 := [180, 0, 99, 3, 47, 136, 42, 180, 0, 99, 4, 47, 136, 182, 3, 7, 184, 1, 72, 167, 0, 4, 9, 173]
abbrev dktX48_store_28 : List UInt8 := dkwX48_store_28 ++ dktX48_store_29
def dkwX48_store_27 : List UInt8 := [19, 2, 105, 19, 1, 36, 182, 1, 7, 153, 0, 39, 42, 180, 0, 167, 156, 0, 30, 42, 180, 0, 42, 42]
abbrev dktX48_store_27 : List UInt8 := dkwX48_store_27 ++ dktX48_store_28
def dkwX48_store_26 : List UInt8 := [3, 47, 136, 42, 180, 0, 99, 4, 47, 136, 182, 3, 5, 184, 1, 72, 167, 0, 4, 9, 173, 42]
abbrev dktX48_store_26 : List UInt8 := dkwX48_store_26 ++ dktX48_store_27
def dkwX48_store_25 : List UInt8 := [19, 1, 36, 182, 1, 7, 153, 0, 39, 42, 180, 0, 167, 156, 0, 30, 42, 180, 0, 42, 42, 180, 0, 99]
abbrev dktX48_store_25 : List UInt8 := dkwX48_store_25 ++ dktX48_store_26
def dkwX48_store_24 : List UInt8 := [3, 47, 136, 42, 180, 0, 99, 4, 47, 136, 182, 3, 1, 133, 167, 0, 4, 9, 173, 42, 19, 3, 3]
abbrev dktX48_store_24 : List UInt8 := dkwX48_store_24 ++ dktX48_store_25
def dkwX48_store_23 : List UInt8 := [19, 1, 36, 182, 1, 7, 153, 0, 37, 42, 180, 0, 167, 156, 0, 28, 42, 180, 0, 42, 42, 180, 0, 99]
abbrev dktX48_store_23 : List UInt8 := dkwX48_store_23 ++ dktX48_store_24
def dkwX48_store_22 : List UInt8 := [180, 0, 99, 5, 47, 138, 20, 2, 250, 111, 182, 2, 252, 133, 167, 0, 4, 9, 173, 42, 19, 2, 255]
abbrev dktX48_store_22 : List UInt8 := dkwX48_store_22 ++ dktX48_store_23
def dkwX48_store_21 : List UInt8 := [156, 0, 39, 42, 180, 0, 42, 42, 180, 0, 99, 3, 47, 136, 42, 180, 0, 99, 4, 47, 136, 42]
abbrev dktX48_store_21 : List UInt8 := dkwX48_store_21 ++ dktX48_store_22
def dkwX48_store_20 : List UInt8 := [167, 0, 4, 9, 173, 42, 19, 2, 246, 19, 2, 248, 182, 1, 7, 153, 0, 48, 42, 180, 0, 167]
abbrev dktX48_store_20 : List UInt8 := dkwX48_store_20 ++ dktX48_store_21
def dkwX48_store_19 : List UInt8 := [156, 0, 27, 42, 180, 0, 42, 42, 180, 0, 99, 3, 47, 136, 42, 180, 0, 99, 4, 47, 136, 182, 2, 244]
abbrev dktX48_store_19 : List UInt8 := dkwX48_store_19 ++ dktX48_store_20
def dkwX48_store_18 : List UInt8 := [133, 167, 0, 4, 9, 173, 42, 19, 2, 242, 19, 1, 36, 182, 1, 7, 153, 0, 36, 42, 180, 0, 167]
abbrev dktX48_store_18 : List UInt8 := dkwX48_store_18 ++ dktX48_store_19
def dkwX48_store_17 : List UInt8 := [156, 0, 28, 42, 180, 0, 42, 42, 180, 0, 99, 3, 47, 136, 42, 180, 0, 99, 4, 47, 136, 182, 2, 240]
abbrev dktX48_store_17 : List UInt8 := dkwX48_store_17 ++ dktX48_store_18
def dkwX48_store_16 : List UInt8 := [133, 167, 0, 4, 9, 173, 42, 19, 2, 238, 19, 1, 36, 182, 1, 7, 153, 0, 37, 42, 180, 0, 167]
abbrev dktX48_store_16 : List UInt8 := dkwX48_store_16 ++ dktX48_store_17
def dkwX48_store_15 : List UInt8 := [156, 0, 28, 42, 180, 0, 42, 42, 180, 0, 99, 3, 47, 136, 42, 180, 0, 99, 4, 47, 136, 182, 2, 236]
abbrev dktX48_store_15 : List UInt8 := dkwX48_store_15 ++ dktX48_store_16
def dkwX48_store_14 : List UInt8 := [133, 167, 0, 4, 9, 173, 42, 19, 2, 234, 19, 1, 36, 182, 1, 7, 153, 0, 37, 42, 180, 0, 167]
abbrev dktX48_store_14 : List UInt8 := dkwX48_store_14 ++ dktX48_store_15
def dkwX48_store_13 : List UInt8 := [153, 0, 30, 42, 180, 0, 167, 156, 0, 21, 42, 180, 0, 42, 42, 180, 0, 99, 3, 47, 136, 182, 2, 232]
abbrev dktX48_store_13 : List UInt8 := dkwX48_store_13 ++ dktX48_store_14
def dkwX48_store_12 : List UInt8 := [3, 47, 136, 182, 2, 227, 133, 167, 0, 4, 9, 173, 42, 19, 2, 230, 19, 1, 22, 182, 1, 7]
abbrev dktX48_store_12 : List UInt8 := dkwX48_store_12 ++ dktX48_store_13
def dkwX48_store_11 : List UInt8 := [19, 1, 22, 182, 1, 7, 153, 0, 30, 42, 180, 0, 167, 156, 0, 21, 42, 180, 0, 42, 42, 180, 0, 99]
abbrev dktX48_store_11 : List UInt8 := dkwX48_store_11 ++ dktX48_store_12
def dkwX48_store_10 : List UInt8 := [3, 47, 136, 42, 180, 0, 99, 4, 47, 136, 182, 1, 151, 133, 167, 0, 4, 9, 173, 42, 19, 2, 225]
abbrev dktX48_store_10 : List UInt8 := dkwX48_store_10 ++ dktX48_store_11
def dkwX48_store_9 : List UInt8 := [19, 1, 36, 182, 1, 7, 153, 0, 37, 42, 180, 0, 167, 156, 0, 28, 42, 180, 0, 42, 42, 180, 0, 99]
abbrev dktX48_store_9 : List UInt8 := dkwX48_store_9 ++ dktX48_store_10
def dkwX48_store_8 : List UInt8 := [180, 0, 99, 4, 47, 42, 180, 0, 99, 5, 47, 182, 1, 147, 133, 167, 0, 4, 9, 173, 42, 19, 2, 224]
abbrev dktX48_store_8 : List UInt8 := dkwX48_store_8 ++ dktX48_store_9
def dkwX48_store_7 : List UInt8 := [153, 0, 42, 42, 180, 0, 167, 156, 0, 33, 42, 180, 0, 42, 42, 180, 0, 99, 3, 47, 136, 42]
abbrev dktX48_store_7 : List UInt8 := dkwX48_store_7 ++ dktX48_store_8
def dkwX48_store_6 : List UInt8 := [180, 0, 99, 5, 47, 182, 2, 221, 133, 167, 0, 4, 9, 173, 42, 19, 2, 30, 19, 2, 35, 182, 1, 7]
abbrev dktX48_store_6 : List UInt8 := dkwX48_store_6 ++ dktX48_store_7
def dkwX48_store_5 : List UInt8 := [42, 180, 0, 167, 156, 0, 32, 42, 180, 0, 42, 42, 180, 0, 99, 3, 47, 42, 180, 0, 99, 4, 47, 42]
abbrev dktX48_store_5 : List UInt8 := dkwX48_store_5 ++ dktX48_store_6
def dkwX48_store_4 : List UInt8 := [182, 2, 214, 184, 1, 72, 167, 0, 4, 9, 173, 42, 19, 2, 217, 19, 2, 219, 182, 1, 7, 153, 0, 41]
abbrev dktX48_store_4 : List UInt8 := dkwX48_store_4 ++ dktX48_store_5
def dkwX48_store_3 : List UInt8 := [180, 0, 167, 156, 0, 29, 42, 180, 0, 42, 42, 180, 0, 99, 3, 47, 136, 42, 180, 0, 99, 4, 47]
abbrev dktX48_store_3 : List UInt8 := dkwX48_store_3 ++ dktX48_store_4
def dkwX48_store_2 : List UInt8 := [184, 1, 72, 167, 0, 4, 9, 173, 42, 19, 2, 212, 19, 1, 28, 182, 1, 7, 153, 0, 38, 42]
abbrev dktX48_store_2 : List UInt8 := dkwX48_store_2 ++ dktX48_store_3
def dkwX48_store_1 : List UInt8 := [42, 180, 0, 99, 3, 47, 136, 42, 180, 0, 99, 4, 47, 136, 42, 180, 0, 99, 5, 47, 136, 182, 2, 210]
abbrev dktX48_store_1 : List UInt8 := dkwX48_store_1 ++ dktX48_store_2
def dkwX48_store_0 : List UInt8 := [42, 19, 2, 208, 19, 1, 242, 182, 1, 7, 153, 0, 46, 42, 180, 0, 167, 156, 0, 37, 42, 180, 0, 42]
abbrev dktX48_store_0 : List UInt8 := dkwX48_store_0 ++ dktX48_store_1
theorem dksX48_store_0 : cX48_store.data.toList.drop 0 = dktX48_store_0 := by decide +kernel
theorem dksX48_store_1 : cX48_store.data.toList.drop 24 = dktX48_store_1 := dk_seg dksX48_store_0 24 rfl rfl
theorem dksX48_store_2 : cX48_store.data.toList.drop 48 = dktX48_store_2 := dk_seg dksX48_store_1 24 rfl rfl
theorem dksX48_store_3 : cX48_store.data.toList.drop 70 = dktX48_store_3 := dk_seg dksX48_store_2 22 rfl rfl
theorem dksX48_store_4 : cX48_store.data.toList.drop 93 = dktX48_store_4 := dk_seg dksX48_store_3 23 rfl rfl
theorem dksX48_store_5 : cX48_store.data.toList.drop 117 = dktX48_store_5 := dk_seg dksX48_store_4 24 rfl rfl
theorem dksX48_store_6 : cX48_store.data.toList.drop 141 = dktX48_store_6 := dk_seg dksX48_store_5 24 rfl rfl
theorem dksX48_store_7 : cX48_store.data.toList.drop 165 = dktX48_store_7 := dk_seg dksX48_store_6 24 rfl rfl
theorem dksX48_store_8 : cX48_store.data.toList.drop 187 = dktX48_store_8 := dk_seg dksX48_store_7 22 rfl rfl
theorem dksX48_store_9 : cX48_store.data.toList.drop 211 = dktX48_store_9 := dk_seg dksX48_store_8 24 rfl rfl
theorem dksX48_store_10 : cX48_store.data.toList.drop 235 = dktX48_store_10 := dk_seg dksX48_store_9 24 rfl rfl
theorem dksX48_store_11 : cX48_store.data.toList.drop 258 = dktX48_store_11 := dk_seg dksX48_store_10 23 rfl rfl
theorem dksX48_store_12 : cX48_store.data.toList.drop 282 = dktX48_store_12 := dk_seg dksX48_store_11 24 rfl rfl
theorem dksX48_store_13 : cX48_store.data.toList.drop 304 = dktX48_store_13 := dk_seg dksX48_store_12 22 rfl rfl
theorem dksX48_store_14 : cX48_store.data.toList.drop 328 = dktX48_store_14 := dk_seg dksX48_store_13 24 rfl rfl
theorem dksX48_store_15 : cX48_store.data.toList.drop 351 = dktX48_store_15 := dk_seg dksX48_store_14 23 rfl rfl
theorem dksX48_store_16 : cX48_store.data.toList.drop 375 = dktX48_store_16 := dk_seg dksX48_store_15 24 rfl rfl
theorem dksX48_store_17 : cX48_store.data.toList.drop 398 = dktX48_store_17 := dk_seg dksX48_store_16 23 rfl rfl
theorem dksX48_store_18 : cX48_store.data.toList.drop 422 = dktX48_store_18 := dk_seg dksX48_store_17 24 rfl rfl
theorem dksX48_store_19 : cX48_store.data.toList.drop 445 = dktX48_store_19 := dk_seg dksX48_store_18 23 rfl rfl
theorem dksX48_store_20 : cX48_store.data.toList.drop 469 = dktX48_store_20 := dk_seg dksX48_store_19 24 rfl rfl
theorem dksX48_store_21 : cX48_store.data.toList.drop 491 = dktX48_store_21 := dk_seg dksX48_store_20 22 rfl rfl
theorem dksX48_store_22 : cX48_store.data.toList.drop 513 = dktX48_store_22 := dk_seg dksX48_store_21 22 rfl rfl
theorem dksX48_store_23 : cX48_store.data.toList.drop 536 = dktX48_store_23 := dk_seg dksX48_store_22 23 rfl rfl
theorem dksX48_store_24 : cX48_store.data.toList.drop 560 = dktX48_store_24 := dk_seg dksX48_store_23 24 rfl rfl
theorem dksX48_store_25 : cX48_store.data.toList.drop 583 = dktX48_store_25 := dk_seg dksX48_store_24 23 rfl rfl
theorem dksX48_store_26 : cX48_store.data.toList.drop 607 = dktX48_store_26 := dk_seg dksX48_store_25 24 rfl rfl
theorem dksX48_store_27 : cX48_store.data.toList.drop 629 = dktX48_store_27 := dk_seg dksX48_store_26 22 rfl rfl
theorem dksX48_store_28 : cX48_store.data.toList.drop 653 = dktX48_store_28 := dk_seg dksX48_store_27 24 rfl rfl
theorem dksX48_store_29 : cX48_store.data.toList.drop 677 = dktX48_store_29 := dk_seg dksX48_store_28 24 rfl rfl
theorem dksX48_store_30 : cX48_store.data.toList.drop 701 = dktX48_store_30 := dk_seg dksX48_store_29 24 rfl rfl
theorem dksX48_store_31 : cX48_store.data.toList.drop 724 = dktX48_store_31 := dk_seg dksX48_store_30 23 rfl rfl
theorem dksX48_store_32 : cX48_store.data.toList.drop 748 = dktX48_store_32 := dk_seg dksX48_store_31 24 rfl rfl
theorem dksX48_store_33 : cX48_store.data.toList.drop 771 = dktX48_store_33 := dk_seg dksX48_store_32 23 rfl rfl
theorem dksX48_store_34 : cX48_store.data.toList.drop 795 = dktX48_store_34 := dk_seg dksX48_store_33 24 rfl rfl
theorem dksX48_store_35 : cX48_store.data.toList.drop 817 = dktX48_store_35 := dk_seg dksX48_store_34 22 rfl rfl
theorem dksX48_store_36 : cX48_store.data.toList.drop 840 = dktX48_store_36 := dk_seg dksX48_store_35 23 rfl rfl
theorem dX48_store_0 : decode cX48_store 0 = .ok (.aload_n 0, 1) := dk_42 (dk_at dksX48_store_0 0 rfl rfl)
theorem dX48_store_1 : decode cX48_store 1 = .ok (.ldc_w 720, 3) := dk_19 2 208 (dk_at dksX48_store_0 1 rfl rfl)
theorem dX48_store_4 : decode cX48_store 4 = .ok (.ldc_w 498, 3) := dk_19 1 242 (dk_at dksX48_store_0 4 rfl rfl)
theorem dX48_store_7 : decode cX48_store 7 = .ok (.invokevirtual 263, 3) := dk_182 1 7 (dk_at dksX48_store_0 7 rfl rfl)
theorem dX48_store_10 : decode cX48_store 10 = .ok (.ifCond .eq 46, 3) := dk_153 0 46 (dk_at dksX48_store_0 10 rfl rfl)
theorem dX48_store_13 : decode cX48_store 13 = .ok (.aload_n 0, 1) := dk_42 (dk_at dksX48_store_0 13 rfl rfl)
theorem dX48_store_14 : decode cX48_store 14 = .ok (.getfield 167, 3) := dk_180 0 167 (dk_at dksX48_store_0 14 rfl rfl)
theorem dX48_store_17 : decode cX48_store 17 = .ok (.ifCond .ge 37, 3) := dk_156 0 37 (dk_at dksX48_store_0 17 rfl rfl)
theorem dX48_store_20 : decode cX48_store 20 = .ok (.aload_n 0, 1) := dk_42 (dk_at dksX48_store_0 20 rfl rfl)
theorem dX48_store_21 : decode cX48_store 21 = .ok (.getfield 42, 3) := dk_180 0 42 (dk_at dksX48_store_0 21 rfl rfl)
theorem dX48_store_24 : decode cX48_store 24 = .ok (.aload_n 0, 1) := dk_42 (dk_at dksX48_store_1 0 rfl rfl)
theorem dX48_store_25 : decode cX48_store 25 = .ok (.getfield 99, 3) := dk_180 0 99 (dk_at dksX48_store_1 1 rfl rfl)
theorem dX48_store_28 : decode cX48_store 28 = .ok (.iconst 0, 1) := dk_3 (dk_at dksX48_store_1 4 rfl rfl)
theorem dX48_store_29 : decode cX48_store 29 = .ok (.laload, 1) := dk_47 (dk_at dksX48_store_1 5 rfl rfl)
theorem dX48_store_30 : decode cX48_store 30 = .ok (.l2i, 1) := dk_136 (dk_at dksX48_store_1 6 rfl rfl)
theorem dX48_store_31 : decode cX48_store 31 = .ok (.aload_n 0, 1) := dk_42 (dk_at dksX48_store_1 7 rfl rfl)
theorem dX48_store_32 : decode cX48_store 32 = .ok (.getfield 99, 3) := dk_180 0 99 (dk_at dksX48_store_1 8 rfl rfl)
theorem dX48_store_35 : decode cX48_store 35 = .ok (.iconst 1, 1) := dk_4 (dk_at dksX48_store_1 11 rfl rfl)
theorem dX48_store_36 : decode cX48_store 36 = .ok (.laload, 1) := dk_47 (dk_at dksX48_store_1 12 rfl rfl)
theorem dX48_store_37 : decode cX48_store 37 = .ok (.l2i, 1) := dk_136 (dk_at dksX48_store_1 13 rfl rfl)
theorem dX48_store_38 : decode cX48_store 38 = .ok (.aload_n 0, 1) := dk_42 (dk_at dksX48_store_1 14 rfl rfl)
theorem dX48_store_39 : decode cX48_store 39 = .ok (.getfield 99, 3) := dk_180 0 99 (dk_at dksX48_store_1 15 rfl rfl)
theorem dX48_store_42 : decode cX48_store 42 = .ok (.iconst 2, 1) := dk_5 (dk_at dksX48_store_1 18 rfl rfl)
theorem dX48_store_43 : decode cX48_store 43 = .ok (.laload, 1) := dk_47 (dk_at dksX48_store_1 19 rfl rfl)
theorem dX48_store_44 : decode cX48_store 44 = .ok (.l2i, 1) := dk_136 (dk_at dksX48_store_1 20 rfl rfl)
theorem dX48_store_45 : decode cX48_store 45 = .ok (.invokevirtual 722, 3) := dk_182 2 210 (dk_at dksX48_store_1 21 rfl rfl)
theorem dX48_store_48 : decode cX48_store 48 = .ok (.invokestatic 328, 3) := dk_184 1 72 (dk_at dksX48_store_2 0 rfl rfl)
theorem dX48_store_51 : decode cX48_store 51 = .ok (.goto 4, 3) := dk_167 0 4 (dk_at dksX48_store_2 3 rfl rfl)
theorem dX48_store_54 : decode cX48_store 54 = .ok (.lconst 0, 1) := dk_9 (dk_at dksX48_store_2 6 rfl rfl)
theorem dX48_store_55 : decode cX48_store 55 = .ok (.lreturn, 1) := dk_173 (dk_at dksX48_store_2 7 rfl rfl)
theorem dX48_store_56 : decode cX48_store 56 = .ok (.aload_n 0, 1) := dk_42 (dk_at dksX48_store_2 8 rfl rfl)
theorem dX48_store_57 : decode cX48_store 57 = .ok (.ldc_w 724, 3) := dk_19 2 212 (dk_at dksX48_store_2 9 rfl rfl)
theorem dX48_store_60 : decode cX48_store 60 = .ok (.ldc_w 284, 3) := dk_19 1 28 (dk_at dksX48_store_2 12 rfl rfl)
theorem dX48_store_63 : decode cX48_store 63 = .ok (.invokevirtual 263, 3) := dk_182 1 7 (dk_at dksX48_store_2 15 rfl rfl)
theorem dX48_store_66 : decode cX48_store 66 = .ok (.ifCond .eq 38, 3) := dk_153 0 38 (dk_at dksX48_store_2 18 rfl rfl)
theorem dX48_store_69 : decode cX48_store 69 = .ok (.aload_n 0, 1) := dk_42 (dk_at dksX48_store_2 21 rfl rfl)
theorem dX48_store_70 : decode cX48_store 70 = .ok (.getfield 167, 3) := dk_180 0 167 (dk_at dksX48_store_3 0 rfl rfl)
theorem dX48_store_73 : decode cX48_store 73 = .ok (.ifCond .ge 29, 3) := dk_156 0 29 (dk_at dksX48_store_3 3 rfl rfl)
theorem dX48_store_76 : decode cX48_store 76 = .ok (.aload_n 0, 1) := dk_42 (dk_at dksX48_store_3 6 rfl rfl)
theorem dX48_store_77 : decode cX48_store 77 = .ok (.getfield 42, 3) := dk_180 0 42 (dk_at dksX48_store_3 7 rfl rfl)
theorem dX48_store_80 : decode cX48_store 80 = .ok (.aload_n 0, 1) := dk_42 (dk_at dksX48_store_3 10 rfl rfl)
theorem dX48_store_81 : decode cX48_store 81 = .ok (.getfield 99, 3) := dk_180 0 99 (dk_at dksX48_store_3 11 rfl rfl)
theorem dX48_store_84 : decode cX48_store 84 = .ok (.iconst 0, 1) := dk_3 (dk_at dksX48_store_3 14 rfl rfl)
theorem dX48_store_85 : decode cX48_store 85 = .ok (.laload, 1) := dk_47 (dk_at dksX48_store_3 15 rfl rfl)
theorem dX48_store_86 : decode cX48_store 86 = .ok (.l2i, 1) := dk_136 (dk_at dksX48_store_3 16 rfl rfl)
theorem dX48_store_87 : decode cX48_store 87 = .ok (.aload_n 0, 1) := dk_42 (dk_at dksX48_store_3 17 rfl rfl)
theorem dX48_store_88 : decode cX48_store 88 = .ok (.getfield 99, 3) := dk_180 0 99 (dk_at dksX48_store_3 18 rfl rfl)
theorem dX48_store_91 : decode cX48_store 91 = .ok (.iconst 1, 1) := dk_4 (dk_at dksX48_store_3 21 rfl rfl)
theorem dX48_store_92 : decode cX48_store 92 = .ok (.laload, 1) := dk_47 (dk_at dksX48_store_3 22 rfl rfl)
theorem dX48_store_93 : decode cX48_store 93 = .ok (.invokevirtual 726, 3) := dk_182 2 214 (dk_at dksX48_store_4 0 rfl rfl)
theorem dX48_store_96 : decode cX48_store 96 = .ok (.invokestatic 328, 3) := dk_184 1 72 (dk_at dksX48_store_4 3 rfl rfl)
theorem dX48_store_99 : decode cX48_store 99 = .ok (.goto 4, 3) := dk_167 0 4 (dk_at dksX48_store_4 6 rfl rfl)
theorem dX48_store_102 : decode cX48_store 102 = .ok (.lconst 0, 1) := dk_9 (dk_at dksX48_store_4 9 rfl rfl)
theorem dX48_store_103 : decode cX48_store 103 = .ok (.lreturn, 1) := dk_173 (dk_at dksX48_store_4 10 rfl rfl)
theorem dX48_store_104 : decode cX48_store 104 = .ok (.aload_n 0, 1) := dk_42 (dk_at dksX48_store_4 11 rfl rfl)
theorem dX48_store_105 : decode cX48_store 105 = .ok (.ldc_w 729, 3) := dk_19 2 217 (dk_at dksX48_store_4 12 rfl rfl)
theorem dX48_store_108 : decode cX48_store 108 = .ok (.ldc_w 731, 3) := dk_19 2 219 (dk_at dksX48_store_4 15 rfl rfl)
theorem dX48_store_111 : decode cX48_store 111 = .ok (.invokevirtual 263, 3) := dk_182 1 7 (dk_at dksX48_store_4 18 rfl rfl)
theorem dX48_store_114 : decode cX48_store 114 = .ok (.ifCond .eq 41, 3) := dk_153 0 41 (dk_at dksX48_store_4 21 rfl rfl)
theorem dX48_store_117 : decode cX48_store 117 = .ok (.aload_n 0, 1) := dk_42 (dk_at dksX48_store_5 0 rfl rfl)
theorem dX48_store_118 : decode cX48_store 118 = .ok (.getfield 167, 3) := dk_180 0 167 (dk_at dksX48_store_5 1 rfl rfl)
theorem dX48_store_121 : decode cX48_store 121 = .ok (.ifCond .ge 32, 3) := dk_156 0 32 (dk_at dksX48_store_5 4 rfl rfl)
theorem dX48_store_124 : decode cX48_store 124 = .ok (.aload_n 0, 1) := dk_42 (dk_at dksX48_store_5 7 rfl rfl)
theorem dX48_store_125 : decode cX48_store 125 = .ok (.getfield 42, 3) := dk_180 0 42 (dk_at dksX48_store_5 8 rfl rfl)
theorem dX48_store_128 : decode cX48_store 128 = .ok (.aload_n 0, 1) := dk_42 (dk_at dksX48_store_5 11 rfl rfl)
theorem dX48_store_129 : decode cX48_store 129 = .ok (.getfield 99, 3) := dk_180 0 99 (dk_at dksX48_store_5 12 rfl rfl)
theorem dX48_store_132 : decode cX48_store 132 = .ok (.iconst 0, 1) := dk_3 (dk_at dksX48_store_5 15 rfl rfl)
theorem dX48_store_133 : decode cX48_store 133 = .ok (.laload, 1) := dk_47 (dk_at dksX48_store_5 16 rfl rfl)
theorem dX48_store_134 : decode cX48_store 134 = .ok (.aload_n 0, 1) := dk_42 (dk_at dksX48_store_5 17 rfl rfl)
theorem dX48_store_135 : decode cX48_store 135 = .ok (.getfield 99, 3) := dk_180 0 99 (dk_at dksX48_store_5 18 rfl rfl)
theorem dX48_store_138 : decode cX48_store 138 = .ok (.iconst 1, 1) := dk_4 (dk_at dksX48_store_5 21 rfl rfl)
theorem dX48_store_139 : decode cX48_store 139 = .ok (.laload, 1) := dk_47 (dk_at dksX48_store_5 22 rfl rfl)
theorem dX48_store_140 : decode cX48_store 140 = .ok (.aload_n 0, 1) := dk_42 (dk_at dksX48_store_5 23 rfl rfl)
theorem dX48_store_141 : decode cX48_store 141 = .ok (.getfield 99, 3) := dk_180 0 99 (dk_at dksX48_store_6 0 rfl rfl)
theorem dX48_store_144 : decode cX48_store 144 = .ok (.iconst 2, 1) := dk_5 (dk_at dksX48_store_6 3 rfl rfl)
theorem dX48_store_145 : decode cX48_store 145 = .ok (.laload, 1) := dk_47 (dk_at dksX48_store_6 4 rfl rfl)
theorem dX48_store_146 : decode cX48_store 146 = .ok (.invokevirtual 733, 3) := dk_182 2 221 (dk_at dksX48_store_6 5 rfl rfl)
theorem dX48_store_149 : decode cX48_store 149 = .ok (.i2l, 1) := dk_133 (dk_at dksX48_store_6 8 rfl rfl)
theorem dX48_store_150 : decode cX48_store 150 = .ok (.goto 4, 3) := dk_167 0 4 (dk_at dksX48_store_6 9 rfl rfl)
theorem dX48_store_153 : decode cX48_store 153 = .ok (.lconst 0, 1) := dk_9 (dk_at dksX48_store_6 12 rfl rfl)
theorem dX48_store_154 : decode cX48_store 154 = .ok (.lreturn, 1) := dk_173 (dk_at dksX48_store_6 13 rfl rfl)
theorem dX48_store_155 : decode cX48_store 155 = .ok (.aload_n 0, 1) := dk_42 (dk_at dksX48_store_6 14 rfl rfl)
theorem dX48_store_156 : decode cX48_store 156 = .ok (.ldc_w 542, 3) := dk_19 2 30 (dk_at dksX48_store_6 15 rfl rfl)
theorem dX48_store_159 : decode cX48_store 159 = .ok (.ldc_w 547, 3) := dk_19 2 35 (dk_at dksX48_store_6 18 rfl rfl)
theorem dX48_store_162 : decode cX48_store 162 = .ok (.invokevirtual 263, 3) := dk_182 1 7 (dk_at dksX48_store_6 21 rfl rfl)
theorem dX48_store_165 : decode cX48_store 165 = .ok (.ifCond .eq 42, 3) := dk_153 0 42 (dk_at dksX48_store_7 0 rfl rfl)
theorem dX48_store_168 : decode cX48_store 168 = .ok (.aload_n 0, 1) := dk_42 (dk_at dksX48_store_7 3 rfl rfl)
theorem dX48_store_169 : decode cX48_store 169 = .ok (.getfield 167, 3) := dk_180 0 167 (dk_at dksX48_store_7 4 rfl rfl)
theorem dX48_store_172 : decode cX48_store 172 = .ok (.ifCond .ge 33, 3) := dk_156 0 33 (dk_at dksX48_store_7 7 rfl rfl)
theorem dX48_store_175 : decode cX48_store 175 = .ok (.aload_n 0, 1) := dk_42 (dk_at dksX48_store_7 10 rfl rfl)
theorem dX48_store_176 : decode cX48_store 176 = .ok (.getfield 42, 3) := dk_180 0 42 (dk_at dksX48_store_7 11 rfl rfl)
theorem dX48_store_179 : decode cX48_store 179 = .ok (.aload_n 0, 1) := dk_42 (dk_at dksX48_store_7 14 rfl rfl)
theorem dX48_store_180 : decode cX48_store 180 = .ok (.getfield 99, 3) := dk_180 0 99 (dk_at dksX48_store_7 15 rfl rfl)
theorem dX48_store_183 : decode cX48_store 183 = .ok (.iconst 0, 1) := dk_3 (dk_at dksX48_store_7 18 rfl rfl)
theorem dX48_store_184 : decode cX48_store 184 = .ok (.laload, 1) := dk_47 (dk_at dksX48_store_7 19 rfl rfl)
theorem dX48_store_185 : decode cX48_store 185 = .ok (.l2i, 1) := dk_136 (dk_at dksX48_store_7 20 rfl rfl)
theorem dX48_store_186 : decode cX48_store 186 = .ok (.aload_n 0, 1) := dk_42 (dk_at dksX48_store_7 21 rfl rfl)
theorem dX48_store_187 : decode cX48_store 187 = .ok (.getfield 99, 3) := dk_180 0 99 (dk_at dksX48_store_8 0 rfl rfl)
theorem dX48_store_190 : decode cX48_store 190 = .ok (.iconst 1, 1) := dk_4 (dk_at dksX48_store_8 3 rfl rfl)
theorem dX48_store_191 : decode cX48_store 191 = .ok (.laload, 1) := dk_47 (dk_at dksX48_store_8 4 rfl rfl)
theorem dX48_store_192 : decode cX48_store 192 = .ok (.aload_n 0, 1) := dk_42 (dk_at dksX48_store_8 5 rfl rfl)
theorem dX48_store_193 : decode cX48_store 193 = .ok (.getfield 99, 3) := dk_180 0 99 (dk_at dksX48_store_8 6 rfl rfl)
theorem dX48_store_196 : decode cX48_store 196 = .ok (.iconst 2, 1) := dk_5 (dk_at dksX48_store_8 9 rfl rfl)
theorem dX48_store_197 : decode cX48_store 197 = .ok (.laload, 1) := dk_47 (dk_at dksX48_store_8 10 rfl rfl)
theorem dX48_store_198 : decode cX48_store 198 = .ok (.invokevirtual 403, 3) := dk_182 1 147 (dk_at dksX48_store_8 11 rfl rfl)
theorem dX48_store_201 : decode cX48_store 201 = .ok (.i2l, 1) := dk_133 (dk_at dksX48_store_8 14 rfl rfl)
theorem dX48_store_202 : decode cX48_store 202 = .ok (.goto 4, 3) := dk_167 0 4 (dk_at dksX48_store_8 15 rfl rfl)
theorem dX48_store_205 : decode cX48_store 205 = .ok (.lconst 0, 1) := dk_9 (dk_at dksX48_store_8 18 rfl rfl)
theorem dX48_store_206 : decode cX48_store 206 = .ok (.lreturn, 1) := dk_173 (dk_at dksX48_store_8 19 rfl rfl)
theorem dX48_store_207 : decode cX48_store 207 = .ok (.aload_n 0, 1) := dk_42 (dk_at dksX48_store_8 20 rfl rfl)
theorem dX48_store_208 : decode cX48_store 208 = .ok (.ldc_w 736, 3) := dk_19 2 224 (dk_at dksX48_store_8 21 rfl rfl)
theorem dX48_store_211 : decode cX48_store 211 = .ok (.ldc_w 292, 3) := dk_19 1 36 (dk_at dksX48_store_9 0 rfl rfl)
theorem dX48_store_214 : decode cX48_store 214 = .ok (.invokevirtual 263, 3) := dk_182 1 7 (dk_at dksX48_store_9 3 rfl rfl)
theorem dX48_store_217 : decode cX48_store 217 = .ok (.ifCond .eq 37, 3) := dk_153 0 37 (dk_at dksX48_store_9 6 rfl rfl)
theorem dX48_store_220 : decode cX48_store 220 = .ok (.aload_n 0, 1) := dk_42 (dk_at dksX48_store_9 9 rfl rfl)
theorem dX48_store_221 : decode cX48_store 221 = .ok (.getfield 167, 3) := dk_180 0 167 (dk_at dksX48_store_9 10 rfl rfl)
theorem dX48_store_224 : decode cX48_store 224 = .ok (.ifCond .ge 28, 3) := dk_156 0 28 (dk_at dksX48_store_9 13 rfl rfl)
theorem dX48_store_227 : decode cX48_store 227 = .ok (.aload_n 0, 1) := dk_42 (dk_at dksX48_store_9 16 rfl rfl)
theorem dX48_store_228 : decode cX48_store 228 = .ok (.getfield 42, 3) := dk_180 0 42 (dk_at dksX48_store_9 17 rfl rfl)
theorem dX48_store_231 : decode cX48_store 231 = .ok (.aload_n 0, 1) := dk_42 (dk_at dksX48_store_9 20 rfl rfl)
theorem dX48_store_232 : decode cX48_store 232 = .ok (.getfield 99, 3) := dk_180 0 99 (dk_at dksX48_store_9 21 rfl rfl)
theorem dX48_store_235 : decode cX48_store 235 = .ok (.iconst 0, 1) := dk_3 (dk_at dksX48_store_10 0 rfl rfl)
theorem dX48_store_236 : decode cX48_store 236 = .ok (.laload, 1) := dk_47 (dk_at dksX48_store_10 1 rfl rfl)
theorem dX48_store_237 : decode cX48_store 237 = .ok (.l2i, 1) := dk_136 (dk_at dksX48_store_10 2 rfl rfl)
theorem dX48_store_238 : decode cX48_store 238 = .ok (.aload_n 0, 1) := dk_42 (dk_at dksX48_store_10 3 rfl rfl)
theorem dX48_store_239 : decode cX48_store 239 = .ok (.getfield 99, 3) := dk_180 0 99 (dk_at dksX48_store_10 4 rfl rfl)
theorem dX48_store_242 : decode cX48_store 242 = .ok (.iconst 1, 1) := dk_4 (dk_at dksX48_store_10 7 rfl rfl)
theorem dX48_store_243 : decode cX48_store 243 = .ok (.laload, 1) := dk_47 (dk_at dksX48_store_10 8 rfl rfl)
theorem dX48_store_244 : decode cX48_store 244 = .ok (.l2i, 1) := dk_136 (dk_at dksX48_store_10 9 rfl rfl)
theorem dX48_store_245 : decode cX48_store 245 = .ok (.invokevirtual 407, 3) := dk_182 1 151 (dk_at dksX48_store_10 10 rfl rfl)
theorem dX48_store_248 : decode cX48_store 248 = .ok (.i2l, 1) := dk_133 (dk_at dksX48_store_10 13 rfl rfl)
theorem dX48_store_249 : decode cX48_store 249 = .ok (.goto 4, 3) := dk_167 0 4 (dk_at dksX48_store_10 14 rfl rfl)
theorem dX48_store_252 : decode cX48_store 252 = .ok (.lconst 0, 1) := dk_9 (dk_at dksX48_store_10 17 rfl rfl)
theorem dX48_store_253 : decode cX48_store 253 = .ok (.lreturn, 1) := dk_173 (dk_at dksX48_store_10 18 rfl rfl)
theorem dX48_store_254 : decode cX48_store 254 = .ok (.aload_n 0, 1) := dk_42 (dk_at dksX48_store_10 19 rfl rfl)
theorem dX48_store_255 : decode cX48_store 255 = .ok (.ldc_w 737, 3) := dk_19 2 225 (dk_at dksX48_store_10 20 rfl rfl)
theorem dX48_store_258 : decode cX48_store 258 = .ok (.ldc_w 278, 3) := dk_19 1 22 (dk_at dksX48_store_11 0 rfl rfl)
theorem dX48_store_261 : decode cX48_store 261 = .ok (.invokevirtual 263, 3) := dk_182 1 7 (dk_at dksX48_store_11 3 rfl rfl)
theorem dX48_store_264 : decode cX48_store 264 = .ok (.ifCond .eq 30, 3) := dk_153 0 30 (dk_at dksX48_store_11 6 rfl rfl)
theorem dX48_store_267 : decode cX48_store 267 = .ok (.aload_n 0, 1) := dk_42 (dk_at dksX48_store_11 9 rfl rfl)
theorem dX48_store_268 : decode cX48_store 268 = .ok (.getfield 167, 3) := dk_180 0 167 (dk_at dksX48_store_11 10 rfl rfl)
theorem dX48_store_271 : decode cX48_store 271 = .ok (.ifCond .ge 21, 3) := dk_156 0 21 (dk_at dksX48_store_11 13 rfl rfl)
theorem dX48_store_274 : decode cX48_store 274 = .ok (.aload_n 0, 1) := dk_42 (dk_at dksX48_store_11 16 rfl rfl)
theorem dX48_store_275 : decode cX48_store 275 = .ok (.getfield 42, 3) := dk_180 0 42 (dk_at dksX48_store_11 17 rfl rfl)
theorem dX48_store_278 : decode cX48_store 278 = .ok (.aload_n 0, 1) := dk_42 (dk_at dksX48_store_11 20 rfl rfl)
theorem dX48_store_279 : decode cX48_store 279 = .ok (.getfield 99, 3) := dk_180 0 99 (dk_at dksX48_store_11 21 rfl rfl)
theorem dX48_store_282 : decode cX48_store 282 = .ok (.iconst 0, 1) := dk_3 (dk_at dksX48_store_12 0 rfl rfl)
theorem dX48_store_283 : decode cX48_store 283 = .ok (.laload, 1) := dk_47 (dk_at dksX48_store_12 1 rfl rfl)
theorem dX48_store_284 : decode cX48_store 284 = .ok (.l2i, 1) := dk_136 (dk_at dksX48_store_12 2 rfl rfl)
theorem dX48_store_285 : decode cX48_store 285 = .ok (.invokevirtual 739, 3) := dk_182 2 227 (dk_at dksX48_store_12 3 rfl rfl)
theorem dX48_store_288 : decode cX48_store 288 = .ok (.i2l, 1) := dk_133 (dk_at dksX48_store_12 6 rfl rfl)
theorem dX48_store_289 : decode cX48_store 289 = .ok (.goto 4, 3) := dk_167 0 4 (dk_at dksX48_store_12 7 rfl rfl)
theorem dX48_store_292 : decode cX48_store 292 = .ok (.lconst 0, 1) := dk_9 (dk_at dksX48_store_12 10 rfl rfl)
theorem dX48_store_293 : decode cX48_store 293 = .ok (.lreturn, 1) := dk_173 (dk_at dksX48_store_12 11 rfl rfl)
theorem dX48_store_294 : decode cX48_store 294 = .ok (.aload_n 0, 1) := dk_42 (dk_at dksX48_store_12 12 rfl rfl)
theorem dX48_store_295 : decode cX48_store 295 = .ok (.ldc_w 742, 3) := dk_19 2 230 (dk_at dksX48_store_12 13 rfl rfl)
theorem dX48_store_298 : decode cX48_store 298 = .ok (.ldc_w 278, 3) := dk_19 1 22 (dk_at dksX48_store_12 16 rfl rfl)
theorem dX48_store_301 : decode cX48_store 301 = .ok (.invokevirtual 263, 3) := dk_182 1 7 (dk_at dksX48_store_12 19 rfl rfl)
theorem dX48_store_304 : decode cX48_store 304 = .ok (.ifCond .eq 30, 3) := dk_153 0 30 (dk_at dksX48_store_13 0 rfl rfl)
theorem dX48_store_307 : decode cX48_store 307 = .ok (.aload_n 0, 1) := dk_42 (dk_at dksX48_store_13 3 rfl rfl)
theorem dX48_store_308 : decode cX48_store 308 = .ok (.getfield 167, 3) := dk_180 0 167 (dk_at dksX48_store_13 4 rfl rfl)
theorem dX48_store_311 : decode cX48_store 311 = .ok (.ifCond .ge 21, 3) := dk_156 0 21 (dk_at dksX48_store_13 7 rfl rfl)
theorem dX48_store_314 : decode cX48_store 314 = .ok (.aload_n 0, 1) := dk_42 (dk_at dksX48_store_13 10 rfl rfl)
theorem dX48_store_315 : decode cX48_store 315 = .ok (.getfield 42, 3) := dk_180 0 42 (dk_at dksX48_store_13 11 rfl rfl)
theorem dX48_store_318 : decode cX48_store 318 = .ok (.aload_n 0, 1) := dk_42 (dk_at dksX48_store_13 14 rfl rfl)
theorem dX48_store_319 : decode cX48_store 319 = .ok (.getfield 99, 3) := dk_180 0 99 (dk_at dksX48_store_13 15 rfl rfl)
theorem dX48_store_322 : decode cX48_store 322 = .ok (.iconst 0, 1) := dk_3 (dk_at dksX48_store_13 18 rfl rfl)
theorem dX48_store_323 : decode cX48_store 323 = .ok (.laload, 1) := dk_47 (dk_at dksX48_store_13 19 rfl rfl)
theorem dX48_store_324 : decode cX48_store 324 = .ok (.l2i, 1) := dk_136 (dk_at dksX48_store_13 20 rfl rfl)
theorem dX48_store_325 : decode cX48_store 325 = .ok (.invokevirtual 744, 3) := dk_182 2 232 (dk_at dksX48_store_13 21 rfl rfl)
theorem dX48_store_328 : decode cX48_store 328 = .ok (.i2l, 1) := dk_133 (dk_at dksX48_store_14 0 rfl rfl)
theorem dX48_store_329 : decode cX48_store 329 = .ok (.goto 4, 3) := dk_167 0 4 (dk_at dksX48_store_14 1 rfl rfl)
theorem dX48_store_332 : decode cX48_store 332 = .ok (.lconst 0, 1) := dk_9 (dk_at dksX48_store_14 4 rfl rfl)
theorem dX48_store_333 : decode cX48_store 333 = .ok (.lreturn, 1) := dk_173 (dk_at dksX48_store_14 5 rfl rfl)
theorem dX48_store_334 : decode cX48_store 334 = .ok (.aload_n 0, 1) := dk_42 (dk_at dksX48_store_14 6 rfl rfl)
theorem dX48_store_335 : decode cX48_store 335 = .ok (.ldc_w 746, 3) := dk_19 2 234 (dk_at dksX48_store_14 7 rfl rfl)
theorem dX48_store_338 : decode cX48_store 338 = .ok (.ldc_w 292, 3) := dk_19 1 36 (dk_at dksX48_store_14 10 rfl rfl)
theorem dX48_store_341 : decode cX48_store 341 = .ok (.invokevirtual 263, 3) := dk_182 1 7 (dk_at dksX48_store_14 13 rfl rfl)
theorem dX48_store_344 : decode cX48_store 344 = .ok (.ifCond .eq 37, 3) := dk_153 0 37 (dk_at dksX48_store_14 16 rfl rfl)
theorem dX48_store_347 : decode cX48_store 347 = .ok (.aload_n 0, 1) := dk_42 (dk_at dksX48_store_14 19 rfl rfl)
theorem dX48_store_348 : decode cX48_store 348 = .ok (.getfield 167, 3) := dk_180 0 167 (dk_at dksX48_store_14 20 rfl rfl)
theorem dX48_store_351 : decode cX48_store 351 = .ok (.ifCond .ge 28, 3) := dk_156 0 28 (dk_at dksX48_store_15 0 rfl rfl)
theorem dX48_store_354 : decode cX48_store 354 = .ok (.aload_n 0, 1) := dk_42 (dk_at dksX48_store_15 3 rfl rfl)
theorem dX48_store_355 : decode cX48_store 355 = .ok (.getfield 42, 3) := dk_180 0 42 (dk_at dksX48_store_15 4 rfl rfl)
theorem dX48_store_358 : decode cX48_store 358 = .ok (.aload_n 0, 1) := dk_42 (dk_at dksX48_store_15 7 rfl rfl)
theorem dX48_store_359 : decode cX48_store 359 = .ok (.getfield 99, 3) := dk_180 0 99 (dk_at dksX48_store_15 8 rfl rfl)
theorem dX48_store_362 : decode cX48_store 362 = .ok (.iconst 0, 1) := dk_3 (dk_at dksX48_store_15 11 rfl rfl)
theorem dX48_store_363 : decode cX48_store 363 = .ok (.laload, 1) := dk_47 (dk_at dksX48_store_15 12 rfl rfl)
theorem dX48_store_364 : decode cX48_store 364 = .ok (.l2i, 1) := dk_136 (dk_at dksX48_store_15 13 rfl rfl)
theorem dX48_store_365 : decode cX48_store 365 = .ok (.aload_n 0, 1) := dk_42 (dk_at dksX48_store_15 14 rfl rfl)
theorem dX48_store_366 : decode cX48_store 366 = .ok (.getfield 99, 3) := dk_180 0 99 (dk_at dksX48_store_15 15 rfl rfl)
theorem dX48_store_369 : decode cX48_store 369 = .ok (.iconst 1, 1) := dk_4 (dk_at dksX48_store_15 18 rfl rfl)
theorem dX48_store_370 : decode cX48_store 370 = .ok (.laload, 1) := dk_47 (dk_at dksX48_store_15 19 rfl rfl)
theorem dX48_store_371 : decode cX48_store 371 = .ok (.l2i, 1) := dk_136 (dk_at dksX48_store_15 20 rfl rfl)
theorem dX48_store_372 : decode cX48_store 372 = .ok (.invokevirtual 748, 3) := dk_182 2 236 (dk_at dksX48_store_15 21 rfl rfl)
theorem dX48_store_375 : decode cX48_store 375 = .ok (.i2l, 1) := dk_133 (dk_at dksX48_store_16 0 rfl rfl)
theorem dX48_store_376 : decode cX48_store 376 = .ok (.goto 4, 3) := dk_167 0 4 (dk_at dksX48_store_16 1 rfl rfl)
theorem dX48_store_379 : decode cX48_store 379 = .ok (.lconst 0, 1) := dk_9 (dk_at dksX48_store_16 4 rfl rfl)
theorem dX48_store_380 : decode cX48_store 380 = .ok (.lreturn, 1) := dk_173 (dk_at dksX48_store_16 5 rfl rfl)
theorem dX48_store_381 : decode cX48_store 381 = .ok (.aload_n 0, 1) := dk_42 (dk_at dksX48_store_16 6 rfl rfl)
theorem dX48_store_382 : decode cX48_store 382 = .ok (.ldc_w 750, 3) := dk_19 2 238 (dk_at dksX48_store_16 7 rfl rfl)
theorem dX48_store_385 : decode cX48_store 385 = .ok (.ldc_w 292, 3) := dk_19 1 36 (dk_at dksX48_store_16 10 rfl rfl)
theorem dX48_store_388 : decode cX48_store 388 = .ok (.invokevirtual 263, 3) := dk_182 1 7 (dk_at dksX48_store_16 13 rfl rfl)
theorem dX48_store_391 : decode cX48_store 391 = .ok (.ifCond .eq 37, 3) := dk_153 0 37 (dk_at dksX48_store_16 16 rfl rfl)
theorem dX48_store_394 : decode cX48_store 394 = .ok (.aload_n 0, 1) := dk_42 (dk_at dksX48_store_16 19 rfl rfl)
theorem dX48_store_395 : decode cX48_store 395 = .ok (.getfield 167, 3) := dk_180 0 167 (dk_at dksX48_store_16 20 rfl rfl)
theorem dX48_store_398 : decode cX48_store 398 = .ok (.ifCond .ge 28, 3) := dk_156 0 28 (dk_at dksX48_store_17 0 rfl rfl)
theorem dX48_store_401 : decode cX48_store 401 = .ok (.aload_n 0, 1) := dk_42 (dk_at dksX48_store_17 3 rfl rfl)
theorem dX48_store_402 : decode cX48_store 402 = .ok (.getfield 42, 3) := dk_180 0 42 (dk_at dksX48_store_17 4 rfl rfl)
theorem dX48_store_405 : decode cX48_store 405 = .ok (.aload_n 0, 1) := dk_42 (dk_at dksX48_store_17 7 rfl rfl)
theorem dX48_store_406 : decode cX48_store 406 = .ok (.getfield 99, 3) := dk_180 0 99 (dk_at dksX48_store_17 8 rfl rfl)
theorem dX48_store_409 : decode cX48_store 409 = .ok (.iconst 0, 1) := dk_3 (dk_at dksX48_store_17 11 rfl rfl)
theorem dX48_store_410 : decode cX48_store 410 = .ok (.laload, 1) := dk_47 (dk_at dksX48_store_17 12 rfl rfl)
theorem dX48_store_411 : decode cX48_store 411 = .ok (.l2i, 1) := dk_136 (dk_at dksX48_store_17 13 rfl rfl)
theorem dX48_store_412 : decode cX48_store 412 = .ok (.aload_n 0, 1) := dk_42 (dk_at dksX48_store_17 14 rfl rfl)
theorem dX48_store_413 : decode cX48_store 413 = .ok (.getfield 99, 3) := dk_180 0 99 (dk_at dksX48_store_17 15 rfl rfl)
theorem dX48_store_416 : decode cX48_store 416 = .ok (.iconst 1, 1) := dk_4 (dk_at dksX48_store_17 18 rfl rfl)
theorem dX48_store_417 : decode cX48_store 417 = .ok (.laload, 1) := dk_47 (dk_at dksX48_store_17 19 rfl rfl)
theorem dX48_store_418 : decode cX48_store 418 = .ok (.l2i, 1) := dk_136 (dk_at dksX48_store_17 20 rfl rfl)
theorem dX48_store_419 : decode cX48_store 419 = .ok (.invokevirtual 752, 3) := dk_182 2 240 (dk_at dksX48_store_17 21 rfl rfl)
theorem dX48_store_422 : decode cX48_store 422 = .ok (.i2l, 1) := dk_133 (dk_at dksX48_store_18 0 rfl rfl)
theorem dX48_store_423 : decode cX48_store 423 = .ok (.goto 4, 3) := dk_167 0 4 (dk_at dksX48_store_18 1 rfl rfl)
theorem dX48_store_426 : decode cX48_store 426 = .ok (.lconst 0, 1) := dk_9 (dk_at dksX48_store_18 4 rfl rfl)
theorem dX48_store_427 : decode cX48_store 427 = .ok (.lreturn, 1) := dk_173 (dk_at dksX48_store_18 5 rfl rfl)
theorem dX48_store_428 : decode cX48_store 428 = .ok (.aload_n 0, 1) := dk_42 (dk_at dksX48_store_18 6 rfl rfl)
theorem dX48_store_429 : decode cX48_store 429 = .ok (.ldc_w 754, 3) := dk_19 2 242 (dk_at dksX48_store_18 7 rfl rfl)
theorem dX48_store_432 : decode cX48_store 432 = .ok (.ldc_w 292, 3) := dk_19 1 36 (dk_at dksX48_store_18 10 rfl rfl)
theorem dX48_store_435 : decode cX48_store 435 = .ok (.invokevirtual 263, 3) := dk_182 1 7 (dk_at dksX48_store_18 13 rfl rfl)
theorem dX48_store_438 : decode cX48_store 438 = .ok (.ifCond .eq 36, 3) := dk_153 0 36 (dk_at dksX48_store_18 16 rfl rfl)
theorem dX48_store_441 : decode cX48_store 441 = .ok (.aload_n 0, 1) := dk_42 (dk_at dksX48_store_18 19 rfl rfl)
theorem dX48_store_442 : decode cX48_store 442 = .ok (.getfield 167, 3) := dk_180 0 167 (dk_at dksX48_store_18 20 rfl rfl)
theorem dX48_store_445 : decode cX48_store 445 = .ok (.ifCond .ge 27, 3) := dk_156 0 27 (dk_at dksX48_store_19 0 rfl rfl)
theorem dX48_store_448 : decode cX48_store 448 = .ok (.aload_n 0, 1) := dk_42 (dk_at dksX48_store_19 3 rfl rfl)
theorem dX48_store_449 : decode cX48_store 449 = .ok (.getfield 42, 3) := dk_180 0 42 (dk_at dksX48_store_19 4 rfl rfl)
theorem dX48_store_452 : decode cX48_store 452 = .ok (.aload_n 0, 1) := dk_42 (dk_at dksX48_store_19 7 rfl rfl)
theorem dX48_store_453 : decode cX48_store 453 = .ok (.getfield 99, 3) := dk_180 0 99 (dk_at dksX48_store_19 8 rfl rfl)
theorem dX48_store_456 : decode cX48_store 456 = .ok (.iconst 0, 1) := dk_3 (dk_at dksX48_store_19 11 rfl rfl)
theorem dX48_store_457 : decode cX48_store 457 = .ok (.laload, 1) := dk_47 (dk_at dksX48_store_19 12 rfl rfl)
theorem dX48_store_458 : decode cX48_store 458 = .ok (.l2i, 1) := dk_136 (dk_at dksX48_store_19 13 rfl rfl)
theorem dX48_store_459 : decode cX48_store 459 = .ok (.aload_n 0, 1) := dk_42 (dk_at dksX48_store_19 14 rfl rfl)
theorem dX48_store_460 : decode cX48_store 460 = .ok (.getfield 99, 3) := dk_180 0 99 (dk_at dksX48_store_19 15 rfl rfl)
theorem dX48_store_463 : decode cX48_store 463 = .ok (.iconst 1, 1) := dk_4 (dk_at dksX48_store_19 18 rfl rfl)
theorem dX48_store_464 : decode cX48_store 464 = .ok (.laload, 1) := dk_47 (dk_at dksX48_store_19 19 rfl rfl)
theorem dX48_store_465 : decode cX48_store 465 = .ok (.l2i, 1) := dk_136 (dk_at dksX48_store_19 20 rfl rfl)
theorem dX48_store_466 : decode cX48_store 466 = .ok (.invokevirtual 756, 3) := dk_182 2 244 (dk_at dksX48_store_19 21 rfl rfl)
theorem dX48_store_469 : decode cX48_store 469 = .ok (.goto 4, 3) := dk_167 0 4 (dk_at dksX48_store_20 0 rfl rfl)
theorem dX48_store_472 : decode cX48_store 472 = .ok (.lconst 0, 1) := dk_9 (dk_at dksX48_store_20 3 rfl rfl)
theorem dX48_store_473 : decode cX48_store 473 = .ok (.lreturn, 1) := dk_173 (dk_at dksX48_store_20 4 rfl rfl)
theorem dX48_store_474 : decode cX48_store 474 = .ok (.aload_n 0, 1) := dk_42 (dk_at dksX48_store_20 5 rfl rfl)
theorem dX48_store_475 : decode cX48_store 475 = .ok (.ldc_w 758, 3) := dk_19 2 246 (dk_at dksX48_store_20 6 rfl rfl)
theorem dX48_store_478 : decode cX48_store 478 = .ok (.ldc_w 760, 3) := dk_19 2 248 (dk_at dksX48_store_20 9 rfl rfl)
theorem dX48_store_481 : decode cX48_store 481 = .ok (.invokevirtual 263, 3) := dk_182 1 7 (dk_at dksX48_store_20 12 rfl rfl)
theorem dX48_store_484 : decode cX48_store 484 = .ok (.ifCond .eq 48, 3) := dk_153 0 48 (dk_at dksX48_store_20 15 rfl rfl)
theorem dX48_store_487 : decode cX48_store 487 = .ok (.aload_n 0, 1) := dk_42 (dk_at dksX48_store_20 18 rfl rfl)
theorem dX48_store_488 : decode cX48_store 488 = .ok (.getfield 167, 3) := dk_180 0 167 (dk_at dksX48_store_20 19 rfl rfl)
theorem dX48_store_491 : decode cX48_store 491 = .ok (.ifCond .ge 39, 3) := dk_156 0 39 (dk_at dksX48_store_21 0 rfl rfl)
theorem dX48_store_494 : decode cX48_store 494 = .ok (.aload_n 0, 1) := dk_42 (dk_at dksX48_store_21 3 rfl rfl)
theorem dX48_store_495 : decode cX48_store 495 = .ok (.getfield 42, 3) := dk_180 0 42 (dk_at dksX48_store_21 4 rfl rfl)
theorem dX48_store_498 : decode cX48_store 498 = .ok (.aload_n 0, 1) := dk_42 (dk_at dksX48_store_21 7 rfl rfl)
theorem dX48_store_499 : decode cX48_store 499 = .ok (.getfield 99, 3) := dk_180 0 99 (dk_at dksX48_store_21 8 rfl rfl)
theorem dX48_store_502 : decode cX48_store 502 = .ok (.iconst 0, 1) := dk_3 (dk_at dksX48_store_21 11 rfl rfl)
theorem dX48_store_503 : decode cX48_store 503 = .ok (.laload, 1) := dk_47 (dk_at dksX48_store_21 12 rfl rfl)
theorem dX48_store_504 : decode cX48_store 504 = .ok (.l2i, 1) := dk_136 (dk_at dksX48_store_21 13 rfl rfl)
theorem dX48_store_505 : decode cX48_store 505 = .ok (.aload_n 0, 1) := dk_42 (dk_at dksX48_store_21 14 rfl rfl)
theorem dX48_store_506 : decode cX48_store 506 = .ok (.getfield 99, 3) := dk_180 0 99 (dk_at dksX48_store_21 15 rfl rfl)
theorem dX48_store_509 : decode cX48_store 509 = .ok (.iconst 1, 1) := dk_4 (dk_at dksX48_store_21 18 rfl rfl)
theorem dX48_store_510 : decode cX48_store 510 = .ok (.laload, 1) := dk_47 (dk_at dksX48_store_21 19 rfl rfl)
theorem dX48_store_511 : decode cX48_store 511 = .ok (.l2i, 1) := dk_136 (dk_at dksX48_store_21 20 rfl rfl)
theorem dX48_store_512 : decode cX48_store 512 = .ok (.aload_n 0, 1) := dk_42 (dk_at dksX48_store_21 21 rfl rfl)
theorem dX48_store_513 : decode cX48_store 513 = .ok (.getfield 99, 3) := dk_180 0 99 (dk_at dksX48_store_22 0 rfl rfl)
theorem dX48_store_516 : decode cX48_store 516 = .ok (.iconst 2, 1) := dk_5 (dk_at dksX48_store_22 3 rfl rfl)
theorem dX48_store_517 : decode cX48_store 517 = .ok (.laload, 1) := dk_47 (dk_at dksX48_store_22 4 rfl rfl)
theorem dX48_store_518 : decode cX48_store 518 = .ok (.l2d, 1) := dk_138 (dk_at dksX48_store_22 5 rfl rfl)
theorem dX48_store_519 : decode cX48_store 519 = .ok (.ldc2_w 762, 3) := dk_20 2 250 (dk_at dksX48_store_22 6 rfl rfl)
theorem dX48_store_522 : decode cX48_store 522 = .ok (.ddiv, 1) := dk_111 (dk_at dksX48_store_22 9 rfl rfl)
theorem dX48_store_523 : decode cX48_store 523 = .ok (.invokevirtual 764, 3) := dk_182 2 252 (dk_at dksX48_store_22 10 rfl rfl)
theorem dX48_store_526 : decode cX48_store 526 = .ok (.i2l, 1) := dk_133 (dk_at dksX48_store_22 13 rfl rfl)
theorem dX48_store_527 : decode cX48_store 527 = .ok (.goto 4, 3) := dk_167 0 4 (dk_at dksX48_store_22 14 rfl rfl)
theorem dX48_store_530 : decode cX48_store 530 = .ok (.lconst 0, 1) := dk_9 (dk_at dksX48_store_22 17 rfl rfl)
theorem dX48_store_531 : decode cX48_store 531 = .ok (.lreturn, 1) := dk_173 (dk_at dksX48_store_22 18 rfl rfl)
theorem dX48_store_532 : decode cX48_store 532 = .ok (.aload_n 0, 1) := dk_42 (dk_at dksX48_store_22 19 rfl rfl)
theorem dX48_store_533 : decode cX48_store 533 = .ok (.ldc_w 767, 3) := dk_19 2 255 (dk_at dksX48_store_22 20 rfl rfl)
theorem dX48_store_536 : decode cX48_store 536 = .ok (.ldc_w 292, 3) := dk_19 1 36 (dk_at dksX48_store_23 0 rfl rfl)
theorem dX48_store_539 : decode cX48_store 539 = .ok (.invokevirtual 263, 3) := dk_182 1 7 (dk_at dksX48_store_23 3 rfl rfl)
theorem dX48_store_542 : decode cX48_store 542 = .ok (.ifCond .eq 37, 3) := dk_153 0 37 (dk_at dksX48_store_23 6 rfl rfl)
theorem dX48_store_545 : decode cX48_store 545 = .ok (.aload_n 0, 1) := dk_42 (dk_at dksX48_store_23 9 rfl rfl)
theorem dX48_store_546 : decode cX48_store 546 = .ok (.getfield 167, 3) := dk_180 0 167 (dk_at dksX48_store_23 10 rfl rfl)
theorem dX48_store_549 : decode cX48_store 549 = .ok (.ifCond .ge 28, 3) := dk_156 0 28 (dk_at dksX48_store_23 13 rfl rfl)
theorem dX48_store_552 : decode cX48_store 552 = .ok (.aload_n 0, 1) := dk_42 (dk_at dksX48_store_23 16 rfl rfl)
theorem dX48_store_553 : decode cX48_store 553 = .ok (.getfield 42, 3) := dk_180 0 42 (dk_at dksX48_store_23 17 rfl rfl)
theorem dX48_store_556 : decode cX48_store 556 = .ok (.aload_n 0, 1) := dk_42 (dk_at dksX48_store_23 20 rfl rfl)
theorem dX48_store_557 : decode cX48_store 557 = .ok (.getfield 99, 3) := dk_180 0 99 (dk_at dksX48_store_23 21 rfl rfl)
theorem dX48_store_560 : decode cX48_store 560 = .ok (.iconst 0, 1) := dk_3 (dk_at dksX48_store_24 0 rfl rfl)
theorem dX48_store_561 : decode cX48_store 561 = .ok (.laload, 1) := dk_47 (dk_at dksX48_store_24 1 rfl rfl)
theorem dX48_store_562 : decode cX48_store 562 = .ok (.l2i, 1) := dk_136 (dk_at dksX48_store_24 2 rfl rfl)
theorem dX48_store_563 : decode cX48_store 563 = .ok (.aload_n 0, 1) := dk_42 (dk_at dksX48_store_24 3 rfl rfl)
theorem dX48_store_564 : decode cX48_store 564 = .ok (.getfield 99, 3) := dk_180 0 99 (dk_at dksX48_store_24 4 rfl rfl)
theorem dX48_store_567 : decode cX48_store 567 = .ok (.iconst 1, 1) := dk_4 (dk_at dksX48_store_24 7 rfl rfl)
theorem dX48_store_568 : decode cX48_store 568 = .ok (.laload, 1) := dk_47 (dk_at dksX48_store_24 8 rfl rfl)
theorem dX48_store_569 : decode cX48_store 569 = .ok (.l2i, 1) := dk_136 (dk_at dksX48_store_24 9 rfl rfl)
theorem dX48_store_570 : decode cX48_store 570 = .ok (.invokevirtual 769, 3) := dk_182 3 1 (dk_at dksX48_store_24 10 rfl rfl)
theorem dX48_store_573 : decode cX48_store 573 = .ok (.i2l, 1) := dk_133 (dk_at dksX48_store_24 13 rfl rfl)
theorem dX48_store_574 : decode cX48_store 574 = .ok (.goto 4, 3) := dk_167 0 4 (dk_at dksX48_store_24 14 rfl rfl)
theorem dX48_store_577 : decode cX48_store 577 = .ok (.lconst 0, 1) := dk_9 (dk_at dksX48_store_24 17 rfl rfl)
theorem dX48_store_578 : decode cX48_store 578 = .ok (.lreturn, 1) := dk_173 (dk_at dksX48_store_24 18 rfl rfl)
theorem dX48_store_579 : decode cX48_store 579 = .ok (.aload_n 0, 1) := dk_42 (dk_at dksX48_store_24 19 rfl rfl)
theorem dX48_store_580 : decode cX48_store 580 = .ok (.ldc_w 771, 3) := dk_19 3 3 (dk_at dksX48_store_24 20 rfl rfl)
theorem dX48_store_583 : decode cX48_store 583 = .ok (.ldc_w 292, 3) := dk_19 1 36 (dk_at dksX48_store_25 0 rfl rfl)
theorem dX48_store_586 : decode cX48_store 586 = .ok (.invokevirtual 263, 3) := dk_182 1 7 (dk_at dksX48_store_25 3 rfl rfl)
theorem dX48_store_589 : decode cX48_store 589 = .ok (.ifCond .eq 39, 3) := dk_153 0 39 (dk_at dksX48_store_25 6 rfl rfl)
theorem dX48_store_592 : decode cX48_store 592 = .ok (.aload_n 0, 1) := dk_42 (dk_at dksX48_store_25 9 rfl rfl)
theorem dX48_store_593 : decode cX48_store 593 = .ok (.getfield 167, 3) := dk_180 0 167 (dk_at dksX48_store_25 10 rfl rfl)
theorem dX48_store_596 : decode cX48_store 596 = .ok (.ifCond .ge 30, 3) := dk_156 0 30 (dk_at dksX48_store_25 13 rfl rfl)
theorem dX48_store_599 : decode cX48_store 599 = .ok (.aload_n 0, 1) := dk_42 (dk_at dksX48_store_25 16 rfl rfl)
theorem dX48_store_600 : decode cX48_store 600 = .ok (.getfield 42, 3) := dk_180 0 42 (dk_at dksX48_store_25 17 rfl rfl)
theorem dX48_store_603 : decode cX48_store 603 = .ok (.aload_n 0, 1) := dk_42 (dk_at dksX48_store_25 20 rfl rfl)
theorem dX48_store_604 : decode cX48_store 604 = .ok (.getfield 99, 3) := dk_180 0 99 (dk_at dksX48_store_25 21 rfl rfl)
theorem dX48_store_607 : decode cX48_store 607 = .ok (.iconst 0, 1) := dk_3 (dk_at dksX48_store_26 0 rfl rfl)
theorem dX48_store_608 : decode cX48_store 608 = .ok (.laload, 1) := dk_47 (dk_at dksX48_store_26 1 rfl rfl)
theorem dX48_store_609 : decode cX48_store 609 = .ok (.l2i, 1) := dk_136 (dk_at dksX48_store_26 2 rfl rfl)
theorem dX48_store_610 : decode cX48_store 610 = .ok (.aload_n 0, 1) := dk_42 (dk_at dksX48_store_26 3 rfl rfl)
theorem dX48_store_611 : decode cX48_store 611 = .ok (.getfield 99, 3) := dk_180 0 99 (dk_at dksX48_store_26 4 rfl rfl)
theorem dX48_store_614 : decode cX48_store 614 = .ok (.iconst 1, 1) := dk_4 (dk_at dksX48_store_26 7 rfl rfl)
theorem dX48_store_615 : decode cX48_store 615 = .ok (.laload, 1) := dk_47 (dk_at dksX48_store_26 8 rfl rfl)
theorem dX48_store_616 : decode cX48_store 616 = .ok (.l2i, 1) := dk_136 (dk_at dksX48_store_26 9 rfl rfl)
theorem dX48_store_617 : decode cX48_store 617 = .ok (.invokevirtual 773, 3) := dk_182 3 5 (dk_at dksX48_store_26 10 rfl rfl)
theorem dX48_store_620 : decode cX48_store 620 = .ok (.invokestatic 328, 3) := dk_184 1 72 (dk_at dksX48_store_26 13 rfl rfl)
theorem dX48_store_623 : decode cX48_store 623 = .ok (.goto 4, 3) := dk_167 0 4 (dk_at dksX48_store_26 16 rfl rfl)
theorem dX48_store_626 : decode cX48_store 626 = .ok (.lconst 0, 1) := dk_9 (dk_at dksX48_store_26 19 rfl rfl)
theorem dX48_store_627 : decode cX48_store 627 = .ok (.lreturn, 1) := dk_173 (dk_at dksX48_store_26 20 rfl rfl)
theorem dX48_store_628 : decode cX48_store 628 = .ok (.aload_n 0, 1) := dk_42 (dk_at dksX48_store_26 21 rfl rfl)
theorem dX48_store_629 : decode cX48_store 629 = .ok (.ldc_w 617, 3) := dk_19 2 105 (dk_at dksX48_store_27 0 rfl rfl)
theorem dX48_store_632 : decode cX48_store 632 = .ok (.ldc_w 292, 3) := dk_19 1 36 (dk_at dksX48_store_27 3 rfl rfl)
theorem dX48_store_635 : decode cX48_store 635 = .ok (.invokevirtual 263, 3) := dk_182 1 7 (dk_at dksX48_store_27 6 rfl rfl)
theorem dX48_store_638 : decode cX48_store 638 = .ok (.ifCond .eq 39, 3) := dk_153 0 39 (dk_at dksX48_store_27 9 rfl rfl)
theorem dX48_store_641 : decode cX48_store 641 = .ok (.aload_n 0, 1) := dk_42 (dk_at dksX48_store_27 12 rfl rfl)
theorem dX48_store_642 : decode cX48_store 642 = .ok (.getfield 167, 3) := dk_180 0 167 (dk_at dksX48_store_27 13 rfl rfl)
theorem dX48_store_645 : decode cX48_store 645 = .ok (.ifCond .ge 30, 3) := dk_156 0 30 (dk_at dksX48_store_27 16 rfl rfl)
theorem dX48_store_648 : decode cX48_store 648 = .ok (.aload_n 0, 1) := dk_42 (dk_at dksX48_store_27 19 rfl rfl)
theorem dX48_store_649 : decode cX48_store 649 = .ok (.getfield 42, 3) := dk_180 0 42 (dk_at dksX48_store_27 20 rfl rfl)
theorem dX48_store_652 : decode cX48_store 652 = .ok (.aload_n 0, 1) := dk_42 (dk_at dksX48_store_27 23 rfl rfl)
theorem dX48_store_653 : decode cX48_store 653 = .ok (.getfield 99, 3) := dk_180 0 99 (dk_at dksX48_store_28 0 rfl rfl)
theorem dX48_store_656 : decode cX48_store 656 = .ok (.iconst 0, 1) := dk_3 (dk_at dksX48_store_28 3 rfl rfl)
theorem dX48_store_657 : decode cX48_store 657 = .ok (.laload, 1) := dk_47 (dk_at dksX48_store_28 4 rfl rfl)
theorem dX48_store_658 : decode cX48_store 658 = .ok (.l2i, 1) := dk_136 (dk_at dksX48_store_28 5 rfl rfl)
theorem dX48_store_659 : decode cX48_store 659 = .ok (.aload_n 0, 1) := dk_42 (dk_at dksX48_store_28 6 rfl rfl)
theorem dX48_store_660 : decode cX48_store 660 = .ok (.getfield 99, 3) := dk_180 0 99 (dk_at dksX48_store_28 7 rfl rfl)
theorem dX48_store_663 : decode cX48_store 663 = .ok (.iconst 1, 1) := dk_4 (dk_at dksX48_store_28 10 rfl rfl)
theorem dX48_store_664 : decode cX48_store 664 = .ok (.laload, 1) := dk_47 (dk_at dksX48_store_28 11 rfl rfl)
theorem dX48_store_665 : decode cX48_store 665 = .ok (.l2i, 1) := dk_136 (dk_at dksX48_store_28 12 rfl rfl)
theorem dX48_store_666 : decode cX48_store 666 = .ok (.invokevirtual 775, 3) := dk_182 3 7 (dk_at dksX48_store_28 13 rfl rfl)
theorem dX48_store_669 : decode cX48_store 669 = .ok (.invokestatic 328, 3) := dk_184 1 72 (dk_at dksX48_store_28 16 rfl rfl)
theorem dX48_store_672 : decode cX48_store 672 = .ok (.goto 4, 3) := dk_167 0 4 (dk_at dksX48_store_28 19 rfl rfl)
theorem dX48_store_675 : decode cX48_store 675 = .ok (.lconst 0, 1) := dk_9 (dk_at dksX48_store_28 22 rfl rfl)
theorem dX48_store_676 : decode cX48_store 676 = .ok (.lreturn, 1) := dk_173 (dk_at dksX48_store_28 23 rfl rfl)
theorem dX48_store_677 : decode cX48_store 677 = .ok (.aload_n 0, 1) := dk_42 (dk_at dksX48_store_29 0 rfl rfl)
theorem dX48_store_678 : decode cX48_store 678 = .ok (.ldc_w 777, 3) := dk_19 3 9 (dk_at dksX48_store_29 1 rfl rfl)
theorem dX48_store_681 : decode cX48_store 681 = .ok (.ldc_w 278, 3) := dk_19 1 22 (dk_at dksX48_store_29 4 rfl rfl)
theorem dX48_store_684 : decode cX48_store 684 = .ok (.invokevirtual 263, 3) := dk_182 1 7 (dk_at dksX48_store_29 7 rfl rfl)
theorem dX48_store_687 : decode cX48_store 687 = .ok (.ifCond .eq 30, 3) := dk_153 0 30 (dk_at dksX48_store_29 10 rfl rfl)
theorem dX48_store_690 : decode cX48_store 690 = .ok (.aload_n 0, 1) := dk_42 (dk_at dksX48_store_29 13 rfl rfl)
theorem dX48_store_691 : decode cX48_store 691 = .ok (.getfield 167, 3) := dk_180 0 167 (dk_at dksX48_store_29 14 rfl rfl)
theorem dX48_store_694 : decode cX48_store 694 = .ok (.ifCond .ge 21, 3) := dk_156 0 21 (dk_at dksX48_store_29 17 rfl rfl)
theorem dX48_store_697 : decode cX48_store 697 = .ok (.aload_n 0, 1) := dk_42 (dk_at dksX48_store_29 20 rfl rfl)
theorem dX48_store_698 : decode cX48_store 698 = .ok (.getfield 42, 3) := dk_180 0 42 (dk_at dksX48_store_29 21 rfl rfl)
theorem dX48_store_701 : decode cX48_store 701 = .ok (.aload_n 0, 1) := dk_42 (dk_at dksX48_store_30 0 rfl rfl)
theorem dX48_store_702 : decode cX48_store 702 = .ok (.getfield 99, 3) := dk_180 0 99 (dk_at dksX48_store_30 1 rfl rfl)
theorem dX48_store_705 : decode cX48_store 705 = .ok (.iconst 0, 1) := dk_3 (dk_at dksX48_store_30 4 rfl rfl)
theorem dX48_store_706 : decode cX48_store 706 = .ok (.laload, 1) := dk_47 (dk_at dksX48_store_30 5 rfl rfl)
theorem dX48_store_707 : decode cX48_store 707 = .ok (.l2i, 1) := dk_136 (dk_at dksX48_store_30 6 rfl rfl)
theorem dX48_store_708 : decode cX48_store 708 = .ok (.invokevirtual 779, 3) := dk_182 3 11 (dk_at dksX48_store_30 7 rfl rfl)
theorem dX48_store_711 : decode cX48_store 711 = .ok (.i2l, 1) := dk_133 (dk_at dksX48_store_30 10 rfl rfl)
theorem dX48_store_712 : decode cX48_store 712 = .ok (.goto 4, 3) := dk_167 0 4 (dk_at dksX48_store_30 11 rfl rfl)
theorem dX48_store_715 : decode cX48_store 715 = .ok (.lconst 0, 1) := dk_9 (dk_at dksX48_store_30 14 rfl rfl)
theorem dX48_store_716 : decode cX48_store 716 = .ok (.lreturn, 1) := dk_173 (dk_at dksX48_store_30 15 rfl rfl)
theorem dX48_store_717 : decode cX48_store 717 = .ok (.aload_n 0, 1) := dk_42 (dk_at dksX48_store_30 16 rfl rfl)
theorem dX48_store_718 : decode cX48_store 718 = .ok (.ldc_w 781, 3) := dk_19 3 13 (dk_at dksX48_store_30 17 rfl rfl)
theorem dX48_store_721 : decode cX48_store 721 = .ok (.ldc_w 292, 3) := dk_19 1 36 (dk_at dksX48_store_30 20 rfl rfl)
theorem dX48_store_724 : decode cX48_store 724 = .ok (.invokevirtual 263, 3) := dk_182 1 7 (dk_at dksX48_store_31 0 rfl rfl)
theorem dX48_store_727 : decode cX48_store 727 = .ok (.ifCond .eq 37, 3) := dk_153 0 37 (dk_at dksX48_store_31 3 rfl rfl)
theorem dX48_store_730 : decode cX48_store 730 = .ok (.aload_n 0, 1) := dk_42 (dk_at dksX48_store_31 6 rfl rfl)
theorem dX48_store_731 : decode cX48_store 731 = .ok (.getfield 167, 3) := dk_180 0 167 (dk_at dksX48_store_31 7 rfl rfl)
theorem dX48_store_734 : decode cX48_store 734 = .ok (.ifCond .ge 28, 3) := dk_156 0 28 (dk_at dksX48_store_31 10 rfl rfl)
theorem dX48_store_737 : decode cX48_store 737 = .ok (.aload_n 0, 1) := dk_42 (dk_at dksX48_store_31 13 rfl rfl)
theorem dX48_store_738 : decode cX48_store 738 = .ok (.getfield 42, 3) := dk_180 0 42 (dk_at dksX48_store_31 14 rfl rfl)
theorem dX48_store_741 : decode cX48_store 741 = .ok (.aload_n 0, 1) := dk_42 (dk_at dksX48_store_31 17 rfl rfl)
theorem dX48_store_742 : decode cX48_store 742 = .ok (.getfield 99, 3) := dk_180 0 99 (dk_at dksX48_store_31 18 rfl rfl)
theorem dX48_store_745 : decode cX48_store 745 = .ok (.iconst 0, 1) := dk_3 (dk_at dksX48_store_31 21 rfl rfl)
theorem dX48_store_746 : decode cX48_store 746 = .ok (.laload, 1) := dk_47 (dk_at dksX48_store_31 22 rfl rfl)
theorem dX48_store_747 : decode cX48_store 747 = .ok (.l2i, 1) := dk_136 (dk_at dksX48_store_31 23 rfl rfl)
theorem dX48_store_748 : decode cX48_store 748 = .ok (.aload_n 0, 1) := dk_42 (dk_at dksX48_store_32 0 rfl rfl)
theorem dX48_store_749 : decode cX48_store 749 = .ok (.getfield 99, 3) := dk_180 0 99 (dk_at dksX48_store_32 1 rfl rfl)
theorem dX48_store_752 : decode cX48_store 752 = .ok (.iconst 1, 1) := dk_4 (dk_at dksX48_store_32 4 rfl rfl)
theorem dX48_store_753 : decode cX48_store 753 = .ok (.laload, 1) := dk_47 (dk_at dksX48_store_32 5 rfl rfl)
theorem dX48_store_754 : decode cX48_store 754 = .ok (.l2i, 1) := dk_136 (dk_at dksX48_store_32 6 rfl rfl)
theorem dX48_store_755 : decode cX48_store 755 = .ok (.invokevirtual 783, 3) := dk_182 3 15 (dk_at dksX48_store_32 7 rfl rfl)
theorem dX48_store_758 : decode cX48_store 758 = .ok (.i2l, 1) := dk_133 (dk_at dksX48_store_32 10 rfl rfl)
theorem dX48_store_759 : decode cX48_store 759 = .ok (.goto 4, 3) := dk_167 0 4 (dk_at dksX48_store_32 11 rfl rfl)
theorem dX48_store_762 : decode cX48_store 762 = .ok (.lconst 0, 1) := dk_9 (dk_at dksX48_store_32 14 rfl rfl)
theorem dX48_store_763 : decode cX48_store 763 = .ok (.lreturn, 1) := dk_173 (dk_at dksX48_store_32 15 rfl rfl)
theorem dX48_store_764 : decode cX48_store 764 = .ok (.aload_n 0, 1) := dk_42 (dk_at dksX48_store_32 16 rfl rfl)
theorem dX48_store_765 : decode cX48_store 765 = .ok (.ldc_w 785, 3) := dk_19 3 17 (dk_at dksX48_store_32 17 rfl rfl)
theorem dX48_store_768 : decode cX48_store 768 = .ok (.ldc_w 284, 3) := dk_19 1 28 (dk_at dksX48_store_32 20 rfl rfl)
theorem dX48_store_771 : decode cX48_store 771 = .ok (.invokevirtual 263, 3) := dk_182 1 7 (dk_at dksX48_store_33 0 rfl rfl)
theorem dX48_store_774 : decode cX48_store 774 = .ok (.ifCond .eq 36, 3) := dk_153 0 36 (dk_at dksX48_store_33 3 rfl rfl)
theorem dX48_store_777 : decode cX48_store 777 = .ok (.aload_n 0, 1) := dk_42 (dk_at dksX48_store_33 6 rfl rfl)
theorem dX48_store_778 : decode cX48_store 778 = .ok (.getfield 167, 3) := dk_180 0 167 (dk_at dksX48_store_33 7 rfl rfl)
theorem dX48_store_781 : decode cX48_store 781 = .ok (.ifCond .ge 27, 3) := dk_156 0 27 (dk_at dksX48_store_33 10 rfl rfl)
theorem dX48_store_784 : decode cX48_store 784 = .ok (.aload_n 0, 1) := dk_42 (dk_at dksX48_store_33 13 rfl rfl)
theorem dX48_store_785 : decode cX48_store 785 = .ok (.getfield 42, 3) := dk_180 0 42 (dk_at dksX48_store_33 14 rfl rfl)
theorem dX48_store_788 : decode cX48_store 788 = .ok (.aload_n 0, 1) := dk_42 (dk_at dksX48_store_33 17 rfl rfl)
theorem dX48_store_789 : decode cX48_store 789 = .ok (.getfield 99, 3) := dk_180 0 99 (dk_at dksX48_store_33 18 rfl rfl)
theorem dX48_store_792 : decode cX48_store 792 = .ok (.iconst 0, 1) := dk_3 (dk_at dksX48_store_33 21 rfl rfl)
theorem dX48_store_793 : decode cX48_store 793 = .ok (.laload, 1) := dk_47 (dk_at dksX48_store_33 22 rfl rfl)
theorem dX48_store_794 : decode cX48_store 794 = .ok (.l2i, 1) := dk_136 (dk_at dksX48_store_33 23 rfl rfl)
theorem dX48_store_795 : decode cX48_store 795 = .ok (.aload_n 0, 1) := dk_42 (dk_at dksX48_store_34 0 rfl rfl)
theorem dX48_store_796 : decode cX48_store 796 = .ok (.getfield 99, 3) := dk_180 0 99 (dk_at dksX48_store_34 1 rfl rfl)
theorem dX48_store_799 : decode cX48_store 799 = .ok (.iconst 1, 1) := dk_4 (dk_at dksX48_store_34 4 rfl rfl)
theorem dX48_store_800 : decode cX48_store 800 = .ok (.laload, 1) := dk_47 (dk_at dksX48_store_34 5 rfl rfl)
theorem dX48_store_801 : decode cX48_store 801 = .ok (.invokevirtual 787, 3) := dk_182 3 19 (dk_at dksX48_store_34 6 rfl rfl)
theorem dX48_store_804 : decode cX48_store 804 = .ok (.i2l, 1) := dk_133 (dk_at dksX48_store_34 9 rfl rfl)
theorem dX48_store_805 : decode cX48_store 805 = .ok (.goto 4, 3) := dk_167 0 4 (dk_at dksX48_store_34 10 rfl rfl)
theorem dX48_store_808 : decode cX48_store 808 = .ok (.lconst 0, 1) := dk_9 (dk_at dksX48_store_34 13 rfl rfl)
theorem dX48_store_809 : decode cX48_store 809 = .ok (.lreturn, 1) := dk_173 (dk_at dksX48_store_34 14 rfl rfl)
theorem dX48_store_810 : decode cX48_store 810 = .ok (.aload_n 0, 1) := dk_42 (dk_at dksX48_store_34 15 rfl rfl)
theorem dX48_store_811 : decode cX48_store 811 = .ok (.ldc_w 575, 3) := dk_19 2 63 (dk_at dksX48_store_34 16 rfl rfl)
theorem dX48_store_814 : decode cX48_store 814 = .ok (.ldc_w 272, 3) := dk_19 1 16 (dk_at dksX48_store_34 19 rfl rfl)
theorem dX48_store_817 : decode cX48_store 817 = .ok (.invokevirtual 263, 3) := dk_182 1 7 (dk_at dksX48_store_35 0 rfl rfl)
theorem dX48_store_820 : decode cX48_store 820 = .ok (.ifCond .eq 25, 3) := dk_153 0 25 (dk_at dksX48_store_35 3 rfl rfl)
theorem dX48_store_823 : decode cX48_store 823 = .ok (.aload_n 0, 1) := dk_42 (dk_at dksX48_store_35 6 rfl rfl)
theorem dX48_store_824 : decode cX48_store 824 = .ok (.getfield 167, 3) := dk_180 0 167 (dk_at dksX48_store_35 7 rfl rfl)
theorem dX48_store_827 : decode cX48_store 827 = .ok (.ifCond .ge 16, 3) := dk_156 0 16 (dk_at dksX48_store_35 10 rfl rfl)
theorem dX48_store_830 : decode cX48_store 830 = .ok (.aload_n 0, 1) := dk_42 (dk_at dksX48_store_35 13 rfl rfl)
theorem dX48_store_831 : decode cX48_store 831 = .ok (.getfield 42, 3) := dk_180 0 42 (dk_at dksX48_store_35 14 rfl rfl)
theorem dX48_store_834 : decode cX48_store 834 = .ok (.invokevirtual 240, 3) := dk_182 0 240 (dk_at dksX48_store_35 17 rfl rfl)
theorem dX48_store_837 : decode cX48_store 837 = .ok (.invokestatic 328, 3) := dk_184 1 72 (dk_at dksX48_store_35 20 rfl rfl)
theorem dX48_store_840 : decode cX48_store 840 = .ok (.goto 4, 3) := dk_167 0 4 (dk_at dksX48_store_36 0 rfl rfl)
theorem dX48_store_843 : decode cX48_store 843 = .ok (.lconst 0, 1) := dk_9 (dk_at dksX48_store_36 3 rfl rfl)
theorem dX48_store_844 : decode cX48_store 844 = .ok (.lreturn, 1) := dk_173 (dk_at dksX48_store_36 4 rfl rfl)
theorem dX48_store_845 : decode cX48_store 845 = .ok (.aload_n 0, 1) := dk_42 (dk_at dksX48_store_36 5 rfl rfl)
theorem dX48_store_846 : decode cX48_store 846 = .ok (.invokevirtual 332, 3) := dk_182 1 76 (dk_at dksX48_store_36 6 rfl rfl)
theorem dX48_store_849 : decode cX48_store 849 = .ok (.lreturn, 1) := dk_173 (dk_at dksX48_store_36 9 rfl rfl)
abbrev cX48_product : ByteArray := prog_56_method_43_code
def yX48_product : MethodName := ⟨RX48, "product", "()J"⟩
def dkwX48_product_34 : List UInt8 := [156, 0, 14, 42, 180, 0, 49, 182, 3, 78, 133, 167, 0, 4, 9, 173, 42, 182, 1, 76, 173]
abbrev dktX48_product_34 : List UInt8 := dkwX48_product_34 ++ []
def dkwX48_product_33 : List UInt8 := [167, 0, 4, 9, 173, 42, 19, 3, 76, 19, 1, 16, 182, 1, 7, 153, 0, 23, 42, 180, 0, 167]
abbrev dktX48_product_33 : List UInt8 := dkwX48_product_33 ++ dktX48_product_34
def dkwX48_product_32 : List UInt8 := [42, 180, 0, 167, 156, 0, 21, 42, 180, 0, 49, 42, 180, 0, 99, 3, 47, 136, 182, 3, 75, 133]
abbrev dktX48_product_32 : List UInt8 := dkwX48_product_32 ++ dktX48_product_33
def dkwX48_product_31 : List UInt8 := [182, 3, 73, 184, 1, 72, 167, 0, 4, 9, 173, 42, 19, 2, 130, 19, 1, 22, 182, 1, 7, 153, 0, 30]
abbrev dktX48_product_31 : List UInt8 := dkwX48_product_31 ++ dktX48_product_32
def dkwX48_product_30 : List UInt8 := [42, 180, 0, 167, 156, 0, 29, 42, 180, 0, 49, 42, 180, 0, 99, 3, 47, 136, 42, 180, 0, 99, 4, 47]
abbrev dktX48_product_30 : List UInt8 := dkwX48_product_30 ++ dktX48_product_31
def dkwX48_product_29 : List UInt8 := [182, 3, 69, 184, 1, 72, 167, 0, 4, 9, 173, 42, 19, 3, 71, 19, 1, 28, 182, 1, 7, 153, 0, 38]
abbrev dktX48_product_29 : List UInt8 := dkwX48_product_29 ++ dktX48_product_30
def dkwX48_product_28 : List UInt8 := [180, 0, 167, 156, 0, 29, 42, 180, 0, 49, 42, 180, 0, 99, 3, 47, 136, 42, 180, 0, 99, 4, 47]
abbrev dktX48_product_28 : List UInt8 := dkwX48_product_28 ++ dktX48_product_29
def dkwX48_product_27 : List UInt8 := [136, 182, 3, 65, 133, 167, 0, 4, 9, 173, 42, 19, 3, 67, 19, 1, 28, 182, 1, 7, 153, 0, 38, 42]
abbrev dktX48_product_27 : List UInt8 := dkwX48_product_27 ++ dktX48_product_28
def dkwX48_product_26 : List UInt8 := [42, 180, 0, 167, 156, 0, 28, 42, 180, 0, 49, 42, 180, 0, 99, 3, 47, 136, 42, 180, 0, 99, 4, 47]
abbrev dktX48_product_26 : List UInt8 := dkwX48_product_26 ++ dktX48_product_27
def dkwX48_product_25 : List UInt8 := [182, 3, 61, 184, 1, 72, 167, 0, 4, 9, 173, 42, 19, 3, 63, 19, 1, 36, 182, 1, 7, 153, 0, 37]
abbrev dktX48_product_25 : List UInt8 := dkwX48_product_25 ++ dktX48_product_26
def dkwX48_product_24 : List UInt8 := [180, 0, 167, 156, 0, 30, 42, 180, 0, 49, 42, 180, 0, 99, 3, 47, 136, 42, 180, 0, 99, 4, 47, 136]
abbrev dktX48_product_24 : List UInt8 := dkwX48_product_24 ++ dktX48_product_25
def dkwX48_product_23 : List UInt8 := [182, 3, 57, 167, 0, 4, 9, 173, 42, 19, 3, 59, 19, 1, 36, 182, 1, 7, 153, 0, 39, 42]
abbrev dktX48_product_23 : List UInt8 := dkwX48_product_23 ++ dktX48_product_24
def dkwX48_product_22 : List UInt8 := [182, 1, 7, 153, 0, 29, 42, 180, 0, 167, 156, 0, 20, 42, 180, 0, 49, 42, 180, 0, 99, 3, 47, 136]
abbrev dktX48_product_22 : List UInt8 := dkwX48_product_22 ++ dktX48_product_23
def dkwX48_product_21 : List UInt8 := [42, 180, 0, 99, 4, 47, 136, 182, 3, 53, 133, 167, 0, 4, 9, 173, 42, 19, 3, 55, 19, 1, 22]
abbrev dktX48_product_21 : List UInt8 := dkwX48_product_21 ++ dktX48_product_22
def dkwX48_product_20 : List UInt8 := [182, 1, 7, 153, 0, 37, 42, 180, 0, 167, 156, 0, 28, 42, 180, 0, 49, 42, 180, 0, 99, 3, 47, 136]
abbrev dktX48_product_20 : List UInt8 := dkwX48_product_20 ++ dktX48_product_21
def dkwX48_product_19 : List UInt8 := [180, 0, 99, 5, 47, 136, 182, 3, 49, 184, 1, 72, 167, 0, 4, 9, 173, 42, 19, 3, 51, 19, 1, 36]
abbrev dktX48_product_19 : List UInt8 := dkwX48_product_19 ++ dktX48_product_20
def dkwX48_product_18 : List UInt8 := [156, 0, 37, 42, 180, 0, 49, 42, 180, 0, 99, 3, 47, 136, 42, 180, 0, 99, 4, 47, 136, 42]
abbrev dktX48_product_18 : List UInt8 := dkwX48_product_18 ++ dktX48_product_19
def dkwX48_product_17 : List UInt8 := [133, 167, 0, 4, 9, 173, 42, 19, 3, 47, 19, 1, 242, 182, 1, 7, 153, 0, 46, 42, 180, 0, 167]
abbrev dktX48_product_17 : List UInt8 := dkwX48_product_17 ++ dktX48_product_18
def dkwX48_product_16 : List UInt8 := [156, 0, 28, 42, 180, 0, 49, 42, 180, 0, 99, 3, 47, 136, 42, 180, 0, 99, 4, 47, 136, 182, 3, 45]
abbrev dktX48_product_16 : List UInt8 := dkwX48_product_16 ++ dktX48_product_17
def dkwX48_product_15 : List UInt8 := [167, 0, 4, 9, 173, 42, 19, 3, 43, 19, 1, 36, 182, 1, 7, 153, 0, 37, 42, 180, 0, 167]
abbrev dktX48_product_15 : List UInt8 := dkwX48_product_15 ++ dktX48_product_16
def dkwX48_product_14 : List UInt8 := [180, 0, 49, 42, 180, 0, 99, 3, 47, 136, 42, 180, 0, 99, 4, 47, 136, 182, 3, 41, 184, 1, 72]
abbrev dktX48_product_14 : List UInt8 := dkwX48_product_14 ++ dktX48_product_15
def dkwX48_product_13 : List UInt8 := [9, 173, 42, 19, 3, 39, 19, 1, 36, 182, 1, 7, 153, 0, 39, 42, 180, 0, 167, 156, 0, 30, 42]
abbrev dktX48_product_13 : List UInt8 := dkwX48_product_13 ++ dktX48_product_14
def dkwX48_product_12 : List UInt8 := [180, 0, 167, 156, 0, 21, 42, 180, 0, 49, 42, 180, 0, 99, 3, 47, 136, 182, 1, 155, 133, 167, 0, 4]
abbrev dktX48_product_12 : List UInt8 := dkwX48_product_12 ++ dktX48_product_13
def dkwX48_product_11 : List UInt8 := [182, 1, 177, 133, 167, 0, 4, 9, 173, 42, 19, 3, 38, 19, 1, 22, 182, 1, 7, 153, 0, 30, 42]
abbrev dktX48_product_11 : List UInt8 := dkwX48_product_11 ++ dktX48_product_12
def dkwX48_product_10 : List UInt8 := [180, 0, 167, 156, 0, 28, 42, 180, 0, 49, 42, 180, 0, 99, 3, 47, 136, 42, 180, 0, 99, 4, 47, 136]
abbrev dktX48_product_10 : List UInt8 := dkwX48_product_10 ++ dktX48_product_11
def dkwX48_product_9 : List UInt8 := [184, 1, 72, 167, 0, 4, 9, 173, 42, 19, 3, 37, 19, 1, 36, 182, 1, 7, 153, 0, 37, 42]
abbrev dktX48_product_9 : List UInt8 := dkwX48_product_9 ++ dktX48_product_10
def dkwX48_product_8 : List UInt8 := [42, 180, 0, 99, 3, 47, 136, 42, 180, 0, 99, 4, 47, 136, 42, 180, 0, 99, 5, 47, 136, 182, 3, 35]
abbrev dktX48_product_8 : List UInt8 := dkwX48_product_8 ++ dktX48_product_9
def dkwX48_product_7 : List UInt8 := [42, 19, 2, 85, 19, 1, 242, 182, 1, 7, 153, 0, 46, 42, 180, 0, 167, 156, 0, 37, 42, 180, 0, 49]
abbrev dktX48_product_7 : List UInt8 := dkwX48_product_7 ++ dktX48_product_8
def dkwX48_product_6 : List UInt8 := [180, 0, 99, 3, 47, 136, 42, 180, 0, 99, 4, 47, 136, 182, 3, 33, 184, 1, 72, 167, 0, 4, 9, 173]
abbrev dktX48_product_6 : List UInt8 := dkwX48_product_6 ++ dktX48_product_7
def dkwX48_product_5 : List UInt8 := [19, 3, 31, 19, 1, 36, 182, 1, 7, 153, 0, 39, 42, 180, 0, 167, 156, 0, 30, 42, 180, 0, 49, 42]
abbrev dktX48_product_5 : List UInt8 := dkwX48_product_5 ++ dktX48_product_6
def dkwX48_product_4 : List UInt8 := [42, 180, 0, 99, 4, 47, 136, 42, 180, 0, 99, 5, 47, 136, 182, 3, 29, 133, 167, 0, 4, 9, 173, 42]
abbrev dktX48_product_4 : List UInt8 := dkwX48_product_4 ++ dktX48_product_5
def dkwX48_product_3 : List UInt8 := [182, 1, 7, 153, 0, 44, 42, 180, 0, 167, 156, 0, 35, 42, 180, 0, 49, 42, 180, 0, 99, 3, 47, 136]
abbrev dktX48_product_3 : List UInt8 := dkwX48_product_3 ++ dktX48_product_4
def dkwX48_product_2 : List UInt8 := [42, 180, 0, 99, 4, 47, 182, 3, 25, 133, 167, 0, 4, 9, 173, 42, 19, 3, 27, 19, 1, 242]
abbrev dktX48_product_2 : List UInt8 := dkwX48_product_2 ++ dktX48_product_3
def dkwX48_product_1 : List UInt8 := [182, 1, 7, 153, 0, 36, 42, 180, 0, 167, 156, 0, 27, 42, 180, 0, 49, 42, 180, 0, 99, 3, 47, 136]
abbrev dktX48_product_1 : List UInt8 := dkwX48_product_1 ++ dktX48_product_2
def dkwX48_product_0 : List UInt8 := [42, 19, 2, 65, 1, 182, 1, 7, 153, 0, 8, 42, 182, 3, 22, 173, 42, 19, 2, 75, 19, 1, 28]
abbrev dktX48_product_0 : List UInt8 := dkwX48_product_0 ++ dktX48_product_1
theorem dksX48_product_0 : cX48_product.data.toList.drop 0 = dktX48_product_0 := by decide +kernel
theorem dksX48_product_1 : cX48_product.data.toList.drop 23 = dktX48_product_1 := dk_seg dksX48_product_0 23 rfl rfl
theorem dksX48_product_2 : cX48_product.data.toList.drop 47 = dktX48_product_2 := dk_seg dksX48_product_1 24 rfl rfl
theorem dksX48_product_3 : cX48_product.data.toList.drop 69 = dktX48_product_3 := dk_seg dksX48_product_2 22 rfl rfl
theorem dksX48_product_4 : cX48_product.data.toList.drop 93 = dktX48_product_4 := dk_seg dksX48_product_3 24 rfl rfl
theorem dksX48_product_5 : cX48_product.data.toList.drop 117 = dktX48_product_5 := dk_seg dksX48_product_4 24 rfl rfl
theorem dksX48_product_6 : cX48_product.data.toList.drop 141 = dktX48_product_6 := dk_seg dksX48_product_5 24 rfl rfl
theorem dksX48_product_7 : cX48_product.data.toList.drop 165 = dktX48_product_7 := dk_seg dksX48_product_6 24 rfl rfl
theorem dksX48_product_8 : cX48_product.data.toList.drop 189 = dktX48_product_8 := dk_seg dksX48_product_7 24 rfl rfl
theorem dksX48_product_9 : cX48_product.data.toList.drop 213 = dktX48_product_9 := dk_seg dksX48_product_8 24 rfl rfl
theorem dksX48_product_10 : cX48_product.data.toList.drop 235 = dktX48_product_10 := dk_seg dksX48_product_9 22 rfl rfl
theorem dksX48_product_11 : cX48_product.data.toList.drop 259 = dktX48_product_11 := dk_seg dksX48_product_10 24 rfl rfl
theorem dksX48_product_12 : cX48_product.data.toList.drop 282 = dktX48_product_12 := dk_seg dksX48_product_11 23 rfl rfl
theorem dksX48_product_13 : cX48_product.data.toList.drop 306 = dktX48_product_13 := dk_seg dksX48_product_12 24 rfl rfl
theorem dksX48_product_14 : cX48_product.data.toList.drop 329 = dktX48_product_14 := dk_seg dksX48_product_13 23 rfl rfl
theorem dksX48_product_15 : cX48_product.data.toList.drop 352 = dktX48_product_15 := dk_seg dksX48_product_14 23 rfl rfl
theorem dksX48_product_16 : cX48_product.data.toList.drop 374 = dktX48_product_16 := dk_seg dksX48_product_15 22 rfl rfl
theorem dksX48_product_17 : cX48_product.data.toList.drop 398 = dktX48_product_17 := dk_seg dksX48_product_16 24 rfl rfl
theorem dksX48_product_18 : cX48_product.data.toList.drop 421 = dktX48_product_18 := dk_seg dksX48_product_17 23 rfl rfl
theorem dksX48_product_19 : cX48_product.data.toList.drop 443 = dktX48_product_19 := dk_seg dksX48_product_18 22 rfl rfl
theorem dksX48_product_20 : cX48_product.data.toList.drop 467 = dktX48_product_20 := dk_seg dksX48_product_19 24 rfl rfl
theorem dksX48_product_21 : cX48_product.data.toList.drop 491 = dktX48_product_21 := dk_seg dksX48_product_20 24 rfl rfl
theorem dksX48_product_22 : cX48_product.data.toList.drop 514 = dktX48_product_22 := dk_seg dksX48_product_21 23 rfl rfl
theorem dksX48_product_23 : cX48_product.data.toList.drop 538 = dktX48_product_23 := dk_seg dksX48_product_22 24 rfl rfl
theorem dksX48_product_24 : cX48_product.data.toList.drop 560 = dktX48_product_24 := dk_seg dksX48_product_23 22 rfl rfl
theorem dksX48_product_25 : cX48_product.data.toList.drop 584 = dktX48_product_25 := dk_seg dksX48_product_24 24 rfl rfl
theorem dksX48_product_26 : cX48_product.data.toList.drop 608 = dktX48_product_26 := dk_seg dksX48_product_25 24 rfl rfl
theorem dksX48_product_27 : cX48_product.data.toList.drop 632 = dktX48_product_27 := dk_seg dksX48_product_26 24 rfl rfl
theorem dksX48_product_28 : cX48_product.data.toList.drop 656 = dktX48_product_28 := dk_seg dksX48_product_27 24 rfl rfl
theorem dksX48_product_29 : cX48_product.data.toList.drop 679 = dktX48_product_29 := dk_seg dksX48_product_28 23 rfl rfl
theorem dksX48_product_30 : cX48_product.data.toList.drop 703 = dktX48_product_30 := dk_seg dksX48_product_29 24 rfl rfl
theorem dksX48_product_31 : cX48_product.data.toList.drop 727 = dktX48_product_31 := dk_seg dksX48_product_30 24 rfl rfl
theorem dksX48_product_32 : cX48_product.data.toList.drop 751 = dktX48_product_32 := dk_seg dksX48_product_31 24 rfl rfl
theorem dksX48_product_33 : cX48_product.data.toList.drop 773 = dktX48_product_33 := dk_seg dksX48_product_32 22 rfl rfl
theorem dksX48_product_34 : cX48_product.data.toList.drop 795 = dktX48_product_34 := dk_seg dksX48_product_33 22 rfl rfl
theorem dX48_product_0 : decode cX48_product 0 = .ok (.aload_n 0, 1) := dk_42 (dk_at dksX48_product_0 0 rfl rfl)
theorem dX48_product_1 : decode cX48_product 1 = .ok (.ldc_w 577, 3) := dk_19 2 65 (dk_at dksX48_product_0 1 rfl rfl)
theorem dX48_product_4 : decode cX48_product 4 = .ok (.aconst_null, 1) := dk_1 (dk_at dksX48_product_0 4 rfl rfl)
theorem dX48_product_5 : decode cX48_product 5 = .ok (.invokevirtual 263, 3) := dk_182 1 7 (dk_at dksX48_product_0 5 rfl rfl)
theorem dX48_product_8 : decode cX48_product 8 = .ok (.ifCond .eq 8, 3) := dk_153 0 8 (dk_at dksX48_product_0 8 rfl rfl)
theorem dX48_product_11 : decode cX48_product 11 = .ok (.aload_n 0, 1) := dk_42 (dk_at dksX48_product_0 11 rfl rfl)
theorem dX48_product_12 : decode cX48_product 12 = .ok (.invokevirtual 790, 3) := dk_182 3 22 (dk_at dksX48_product_0 12 rfl rfl)
theorem dX48_product_15 : decode cX48_product 15 = .ok (.lreturn, 1) := dk_173 (dk_at dksX48_product_0 15 rfl rfl)
theorem dX48_product_16 : decode cX48_product 16 = .ok (.aload_n 0, 1) := dk_42 (dk_at dksX48_product_0 16 rfl rfl)
theorem dX48_product_17 : decode cX48_product 17 = .ok (.ldc_w 587, 3) := dk_19 2 75 (dk_at dksX48_product_0 17 rfl rfl)
theorem dX48_product_20 : decode cX48_product 20 = .ok (.ldc_w 284, 3) := dk_19 1 28 (dk_at dksX48_product_0 20 rfl rfl)
theorem dX48_product_23 : decode cX48_product 23 = .ok (.invokevirtual 263, 3) := dk_182 1 7 (dk_at dksX48_product_1 0 rfl rfl)
theorem dX48_product_26 : decode cX48_product 26 = .ok (.ifCond .eq 36, 3) := dk_153 0 36 (dk_at dksX48_product_1 3 rfl rfl)
theorem dX48_product_29 : decode cX48_product 29 = .ok (.aload_n 0, 1) := dk_42 (dk_at dksX48_product_1 6 rfl rfl)
theorem dX48_product_30 : decode cX48_product 30 = .ok (.getfield 167, 3) := dk_180 0 167 (dk_at dksX48_product_1 7 rfl rfl)
theorem dX48_product_33 : decode cX48_product 33 = .ok (.ifCond .ge 27, 3) := dk_156 0 27 (dk_at dksX48_product_1 10 rfl rfl)
theorem dX48_product_36 : decode cX48_product 36 = .ok (.aload_n 0, 1) := dk_42 (dk_at dksX48_product_1 13 rfl rfl)
theorem dX48_product_37 : decode cX48_product 37 = .ok (.getfield 49, 3) := dk_180 0 49 (dk_at dksX48_product_1 14 rfl rfl)
theorem dX48_product_40 : decode cX48_product 40 = .ok (.aload_n 0, 1) := dk_42 (dk_at dksX48_product_1 17 rfl rfl)
theorem dX48_product_41 : decode cX48_product 41 = .ok (.getfield 99, 3) := dk_180 0 99 (dk_at dksX48_product_1 18 rfl rfl)
theorem dX48_product_44 : decode cX48_product 44 = .ok (.iconst 0, 1) := dk_3 (dk_at dksX48_product_1 21 rfl rfl)
theorem dX48_product_45 : decode cX48_product 45 = .ok (.laload, 1) := dk_47 (dk_at dksX48_product_1 22 rfl rfl)
theorem dX48_product_46 : decode cX48_product 46 = .ok (.l2i, 1) := dk_136 (dk_at dksX48_product_1 23 rfl rfl)
theorem dX48_product_47 : decode cX48_product 47 = .ok (.aload_n 0, 1) := dk_42 (dk_at dksX48_product_2 0 rfl rfl)
theorem dX48_product_48 : decode cX48_product 48 = .ok (.getfield 99, 3) := dk_180 0 99 (dk_at dksX48_product_2 1 rfl rfl)
theorem dX48_product_51 : decode cX48_product 51 = .ok (.iconst 1, 1) := dk_4 (dk_at dksX48_product_2 4 rfl rfl)
theorem dX48_product_52 : decode cX48_product 52 = .ok (.laload, 1) := dk_47 (dk_at dksX48_product_2 5 rfl rfl)
theorem dX48_product_53 : decode cX48_product 53 = .ok (.invokevirtual 793, 3) := dk_182 3 25 (dk_at dksX48_product_2 6 rfl rfl)
theorem dX48_product_56 : decode cX48_product 56 = .ok (.i2l, 1) := dk_133 (dk_at dksX48_product_2 9 rfl rfl)
theorem dX48_product_57 : decode cX48_product 57 = .ok (.goto 4, 3) := dk_167 0 4 (dk_at dksX48_product_2 10 rfl rfl)
theorem dX48_product_60 : decode cX48_product 60 = .ok (.lconst 0, 1) := dk_9 (dk_at dksX48_product_2 13 rfl rfl)
theorem dX48_product_61 : decode cX48_product 61 = .ok (.lreturn, 1) := dk_173 (dk_at dksX48_product_2 14 rfl rfl)
theorem dX48_product_62 : decode cX48_product 62 = .ok (.aload_n 0, 1) := dk_42 (dk_at dksX48_product_2 15 rfl rfl)
theorem dX48_product_63 : decode cX48_product 63 = .ok (.ldc_w 795, 3) := dk_19 3 27 (dk_at dksX48_product_2 16 rfl rfl)
theorem dX48_product_66 : decode cX48_product 66 = .ok (.ldc_w 498, 3) := dk_19 1 242 (dk_at dksX48_product_2 19 rfl rfl)
theorem dX48_product_69 : decode cX48_product 69 = .ok (.invokevirtual 263, 3) := dk_182 1 7 (dk_at dksX48_product_3 0 rfl rfl)
theorem dX48_product_72 : decode cX48_product 72 = .ok (.ifCond .eq 44, 3) := dk_153 0 44 (dk_at dksX48_product_3 3 rfl rfl)
theorem dX48_product_75 : decode cX48_product 75 = .ok (.aload_n 0, 1) := dk_42 (dk_at dksX48_product_3 6 rfl rfl)
theorem dX48_product_76 : decode cX48_product 76 = .ok (.getfield 167, 3) := dk_180 0 167 (dk_at dksX48_product_3 7 rfl rfl)
theorem dX48_product_79 : decode cX48_product 79 = .ok (.ifCond .ge 35, 3) := dk_156 0 35 (dk_at dksX48_product_3 10 rfl rfl)
theorem dX48_product_82 : decode cX48_product 82 = .ok (.aload_n 0, 1) := dk_42 (dk_at dksX48_product_3 13 rfl rfl)
theorem dX48_product_83 : decode cX48_product 83 = .ok (.getfield 49, 3) := dk_180 0 49 (dk_at dksX48_product_3 14 rfl rfl)
theorem dX48_product_86 : decode cX48_product 86 = .ok (.aload_n 0, 1) := dk_42 (dk_at dksX48_product_3 17 rfl rfl)
theorem dX48_product_87 : decode cX48_product 87 = .ok (.getfield 99, 3) := dk_180 0 99 (dk_at dksX48_product_3 18 rfl rfl)
theorem dX48_product_90 : decode cX48_product 90 = .ok (.iconst 0, 1) := dk_3 (dk_at dksX48_product_3 21 rfl rfl)
theorem dX48_product_91 : decode cX48_product 91 = .ok (.laload, 1) := dk_47 (dk_at dksX48_product_3 22 rfl rfl)
theorem dX48_product_92 : decode cX48_product 92 = .ok (.l2i, 1) := dk_136 (dk_at dksX48_product_3 23 rfl rfl)
theorem dX48_product_93 : decode cX48_product 93 = .ok (.aload_n 0, 1) := dk_42 (dk_at dksX48_product_4 0 rfl rfl)
theorem dX48_product_94 : decode cX48_product 94 = .ok (.getfield 99, 3) := dk_180 0 99 (dk_at dksX48_product_4 1 rfl rfl)
theorem dX48_product_97 : decode cX48_product 97 = .ok (.iconst 1, 1) := dk_4 (dk_at dksX48_product_4 4 rfl rfl)
theorem dX48_product_98 : decode cX48_product 98 = .ok (.laload, 1) := dk_47 (dk_at dksX48_product_4 5 rfl rfl)
theorem dX48_product_99 : decode cX48_product 99 = .ok (.l2i, 1) := dk_136 (dk_at dksX48_product_4 6 rfl rfl)
theorem dX48_product_100 : decode cX48_product 100 = .ok (.aload_n 0, 1) := dk_42 (dk_at dksX48_product_4 7 rfl rfl)
theorem dX48_product_101 : decode cX48_product 101 = .ok (.getfield 99, 3) := dk_180 0 99 (dk_at dksX48_product_4 8 rfl rfl)
theorem dX48_product_104 : decode cX48_product 104 = .ok (.iconst 2, 1) := dk_5 (dk_at dksX48_product_4 11 rfl rfl)
theorem dX48_product_105 : decode cX48_product 105 = .ok (.laload, 1) := dk_47 (dk_at dksX48_product_4 12 rfl rfl)
theorem dX48_product_106 : decode cX48_product 106 = .ok (.l2i, 1) := dk_136 (dk_at dksX48_product_4 13 rfl rfl)
theorem dX48_product_107 : decode cX48_product 107 = .ok (.invokevirtual 797, 3) := dk_182 3 29 (dk_at dksX48_product_4 14 rfl rfl)
theorem dX48_product_110 : decode cX48_product 110 = .ok (.i2l, 1) := dk_133 (dk_at dksX48_product_4 17 rfl rfl)
theorem dX48_product_111 : decode cX48_product 111 = .ok (.goto 4, 3) := dk_167 0 4 (dk_at dksX48_product_4 18 rfl rfl)
theorem dX48_product_114 : decode cX48_product 114 = .ok (.lconst 0, 1) := dk_9 (dk_at dksX48_product_4 21 rfl rfl)
theorem dX48_product_115 : decode cX48_product 115 = .ok (.lreturn, 1) := dk_173 (dk_at dksX48_product_4 22 rfl rfl)
theorem dX48_product_116 : decode cX48_product 116 = .ok (.aload_n 0, 1) := dk_42 (dk_at dksX48_product_4 23 rfl rfl)
theorem dX48_product_117 : decode cX48_product 117 = .ok (.ldc_w 799, 3) := dk_19 3 31 (dk_at dksX48_product_5 0 rfl rfl)
theorem dX48_product_120 : decode cX48_product 120 = .ok (.ldc_w 292, 3) := dk_19 1 36 (dk_at dksX48_product_5 3 rfl rfl)
theorem dX48_product_123 : decode cX48_product 123 = .ok (.invokevirtual 263, 3) := dk_182 1 7 (dk_at dksX48_product_5 6 rfl rfl)
theorem dX48_product_126 : decode cX48_product 126 = .ok (.ifCond .eq 39, 3) := dk_153 0 39 (dk_at dksX48_product_5 9 rfl rfl)
theorem dX48_product_129 : decode cX48_product 129 = .ok (.aload_n 0, 1) := dk_42 (dk_at dksX48_product_5 12 rfl rfl)
theorem dX48_product_130 : decode cX48_product 130 = .ok (.getfield 167, 3) := dk_180 0 167 (dk_at dksX48_product_5 13 rfl rfl)
theorem dX48_product_133 : decode cX48_product 133 = .ok (.ifCond .ge 30, 3) := dk_156 0 30 (dk_at dksX48_product_5 16 rfl rfl)
theorem dX48_product_136 : decode cX48_product 136 = .ok (.aload_n 0, 1) := dk_42 (dk_at dksX48_product_5 19 rfl rfl)
theorem dX48_product_137 : decode cX48_product 137 = .ok (.getfield 49, 3) := dk_180 0 49 (dk_at dksX48_product_5 20 rfl rfl)
theorem dX48_product_140 : decode cX48_product 140 = .ok (.aload_n 0, 1) := dk_42 (dk_at dksX48_product_5 23 rfl rfl)
theorem dX48_product_141 : decode cX48_product 141 = .ok (.getfield 99, 3) := dk_180 0 99 (dk_at dksX48_product_6 0 rfl rfl)
theorem dX48_product_144 : decode cX48_product 144 = .ok (.iconst 0, 1) := dk_3 (dk_at dksX48_product_6 3 rfl rfl)
theorem dX48_product_145 : decode cX48_product 145 = .ok (.laload, 1) := dk_47 (dk_at dksX48_product_6 4 rfl rfl)
theorem dX48_product_146 : decode cX48_product 146 = .ok (.l2i, 1) := dk_136 (dk_at dksX48_product_6 5 rfl rfl)
theorem dX48_product_147 : decode cX48_product 147 = .ok (.aload_n 0, 1) := dk_42 (dk_at dksX48_product_6 6 rfl rfl)
theorem dX48_product_148 : decode cX48_product 148 = .ok (.getfield 99, 3) := dk_180 0 99 (dk_at dksX48_product_6 7 rfl rfl)
theorem dX48_product_151 : decode cX48_product 151 = .ok (.iconst 1, 1) := dk_4 (dk_at dksX48_product_6 10 rfl rfl)
theorem dX48_product_152 : decode cX48_product 152 = .ok (.laload, 1) := dk_47 (dk_at dksX48_product_6 11 rfl rfl)
theorem dX48_product_153 : decode cX48_product 153 = .ok (.l2i, 1) := dk_136 (dk_at dksX48_product_6 12 rfl rfl)
theorem dX48_product_154 : decode cX48_product 154 = .ok (.invokevirtual 801, 3) := dk_182 3 33 (dk_at dksX48_product_6 13 rfl rfl)
theorem dX48_product_157 : decode cX48_product 157 = .ok (.invokestatic 328, 3) := dk_184 1 72 (dk_at dksX48_product_6 16 rfl rfl)
theorem dX48_product_160 : decode cX48_product 160 = .ok (.goto 4, 3) := dk_167 0 4 (dk_at dksX48_product_6 19 rfl rfl)
theorem dX48_product_163 : decode cX48_product 163 = .ok (.lconst 0, 1) := dk_9 (dk_at dksX48_product_6 22 rfl rfl)
theorem dX48_product_164 : decode cX48_product 164 = .ok (.lreturn, 1) := dk_173 (dk_at dksX48_product_6 23 rfl rfl)
theorem dX48_product_165 : decode cX48_product 165 = .ok (.aload_n 0, 1) := dk_42 (dk_at dksX48_product_7 0 rfl rfl)
theorem dX48_product_166 : decode cX48_product 166 = .ok (.ldc_w 597, 3) := dk_19 2 85 (dk_at dksX48_product_7 1 rfl rfl)
theorem dX48_product_169 : decode cX48_product 169 = .ok (.ldc_w 498, 3) := dk_19 1 242 (dk_at dksX48_product_7 4 rfl rfl)
theorem dX48_product_172 : decode cX48_product 172 = .ok (.invokevirtual 263, 3) := dk_182 1 7 (dk_at dksX48_product_7 7 rfl rfl)
theorem dX48_product_175 : decode cX48_product 175 = .ok (.ifCond .eq 46, 3) := dk_153 0 46 (dk_at dksX48_product_7 10 rfl rfl)
theorem dX48_product_178 : decode cX48_product 178 = .ok (.aload_n 0, 1) := dk_42 (dk_at dksX48_product_7 13 rfl rfl)
theorem dX48_product_179 : decode cX48_product 179 = .ok (.getfield 167, 3) := dk_180 0 167 (dk_at dksX48_product_7 14 rfl rfl)
theorem dX48_product_182 : decode cX48_product 182 = .ok (.ifCond .ge 37, 3) := dk_156 0 37 (dk_at dksX48_product_7 17 rfl rfl)
theorem dX48_product_185 : decode cX48_product 185 = .ok (.aload_n 0, 1) := dk_42 (dk_at dksX48_product_7 20 rfl rfl)
theorem dX48_product_186 : decode cX48_product 186 = .ok (.getfield 49, 3) := dk_180 0 49 (dk_at dksX48_product_7 21 rfl rfl)
theorem dX48_product_189 : decode cX48_product 189 = .ok (.aload_n 0, 1) := dk_42 (dk_at dksX48_product_8 0 rfl rfl)
theorem dX48_product_190 : decode cX48_product 190 = .ok (.getfield 99, 3) := dk_180 0 99 (dk_at dksX48_product_8 1 rfl rfl)
theorem dX48_product_193 : decode cX48_product 193 = .ok (.iconst 0, 1) := dk_3 (dk_at dksX48_product_8 4 rfl rfl)
theorem dX48_product_194 : decode cX48_product 194 = .ok (.laload, 1) := dk_47 (dk_at dksX48_product_8 5 rfl rfl)
theorem dX48_product_195 : decode cX48_product 195 = .ok (.l2i, 1) := dk_136 (dk_at dksX48_product_8 6 rfl rfl)
theorem dX48_product_196 : decode cX48_product 196 = .ok (.aload_n 0, 1) := dk_42 (dk_at dksX48_product_8 7 rfl rfl)
theorem dX48_product_197 : decode cX48_product 197 = .ok (.getfield 99, 3) := dk_180 0 99 (dk_at dksX48_product_8 8 rfl rfl)
theorem dX48_product_200 : decode cX48_product 200 = .ok (.iconst 1, 1) := dk_4 (dk_at dksX48_product_8 11 rfl rfl)
theorem dX48_product_201 : decode cX48_product 201 = .ok (.laload, 1) := dk_47 (dk_at dksX48_product_8 12 rfl rfl)
theorem dX48_product_202 : decode cX48_product 202 = .ok (.l2i, 1) := dk_136 (dk_at dksX48_product_8 13 rfl rfl)
theorem dX48_product_203 : decode cX48_product 203 = .ok (.aload_n 0, 1) := dk_42 (dk_at dksX48_product_8 14 rfl rfl)
theorem dX48_product_204 : decode cX48_product 204 = .ok (.getfield 99, 3) := dk_180 0 99 (dk_at dksX48_product_8 15 rfl rfl)
theorem dX48_product_207 : decode cX48_product 207 = .ok (.iconst 2, 1) := dk_5 (dk_at dksX48_product_8 18 rfl rfl)
theorem dX48_product_208 : decode cX48_product 208 = .ok (.laload, 1) := dk_47 (dk_at dksX48_product_8 19 rfl rfl)
theorem dX48_product_209 : decode cX48_product 209 = .ok (.l2i, 1) := dk_136 (dk_at dksX48_product_8 20 rfl rfl)
theorem dX48_product_210 : decode cX48_product 210 = .ok (.invokevirtual 803, 3) := dk_182 3 35 (dk_at dksX48_product_8 21 rfl rfl)
theorem dX48_product_213 : decode cX48_product 213 = .ok (.invokestatic 328, 3) := dk_184 1 72 (dk_at dksX48_product_9 0 rfl rfl)
theorem dX48_product_216 : decode cX48_product 216 = .ok (.goto 4, 3) := dk_167 0 4 (dk_at dksX48_product_9 3 rfl rfl)
theorem dX48_product_219 : decode cX48_product 219 = .ok (.lconst 0, 1) := dk_9 (dk_at dksX48_product_9 6 rfl rfl)
theorem dX48_product_220 : decode cX48_product 220 = .ok (.lreturn, 1) := dk_173 (dk_at dksX48_product_9 7 rfl rfl)
theorem dX48_product_221 : decode cX48_product 221 = .ok (.aload_n 0, 1) := dk_42 (dk_at dksX48_product_9 8 rfl rfl)
theorem dX48_product_222 : decode cX48_product 222 = .ok (.ldc_w 805, 3) := dk_19 3 37 (dk_at dksX48_product_9 9 rfl rfl)
theorem dX48_product_225 : decode cX48_product 225 = .ok (.ldc_w 292, 3) := dk_19 1 36 (dk_at dksX48_product_9 12 rfl rfl)
theorem dX48_product_228 : decode cX48_product 228 = .ok (.invokevirtual 263, 3) := dk_182 1 7 (dk_at dksX48_product_9 15 rfl rfl)
theorem dX48_product_231 : decode cX48_product 231 = .ok (.ifCond .eq 37, 3) := dk_153 0 37 (dk_at dksX48_product_9 18 rfl rfl)
theorem dX48_product_234 : decode cX48_product 234 = .ok (.aload_n 0, 1) := dk_42 (dk_at dksX48_product_9 21 rfl rfl)
theorem dX48_product_235 : decode cX48_product 235 = .ok (.getfield 167, 3) := dk_180 0 167 (dk_at dksX48_product_10 0 rfl rfl)
theorem dX48_product_238 : decode cX48_product 238 = .ok (.ifCond .ge 28, 3) := dk_156 0 28 (dk_at dksX48_product_10 3 rfl rfl)
theorem dX48_product_241 : decode cX48_product 241 = .ok (.aload_n 0, 1) := dk_42 (dk_at dksX48_product_10 6 rfl rfl)
theorem dX48_product_242 : decode cX48_product 242 = .ok (.getfield 49, 3) := dk_180 0 49 (dk_at dksX48_product_10 7 rfl rfl)
theorem dX48_product_245 : decode cX48_product 245 = .ok (.aload_n 0, 1) := dk_42 (dk_at dksX48_product_10 10 rfl rfl)
theorem dX48_product_246 : decode cX48_product 246 = .ok (.getfield 99, 3) := dk_180 0 99 (dk_at dksX48_product_10 11 rfl rfl)
theorem dX48_product_249 : decode cX48_product 249 = .ok (.iconst 0, 1) := dk_3 (dk_at dksX48_product_10 14 rfl rfl)
theorem dX48_product_250 : decode cX48_product 250 = .ok (.laload, 1) := dk_47 (dk_at dksX48_product_10 15 rfl rfl)
theorem dX48_product_251 : decode cX48_product 251 = .ok (.l2i, 1) := dk_136 (dk_at dksX48_product_10 16 rfl rfl)
theorem dX48_product_252 : decode cX48_product 252 = .ok (.aload_n 0, 1) := dk_42 (dk_at dksX48_product_10 17 rfl rfl)
theorem dX48_product_253 : decode cX48_product 253 = .ok (.getfield 99, 3) := dk_180 0 99 (dk_at dksX48_product_10 18 rfl rfl)
theorem dX48_product_256 : decode cX48_product 256 = .ok (.iconst 1, 1) := dk_4 (dk_at dksX48_product_10 21 rfl rfl)
theorem dX48_product_257 : decode cX48_product 257 = .ok (.laload, 1) := dk_47 (dk_at dksX48_product_10 22 rfl rfl)
theorem dX48_product_258 : decode cX48_product 258 = .ok (.l2i, 1) := dk_136 (dk_at dksX48_product_10 23 rfl rfl)
theorem dX48_product_259 : decode cX48_product 259 = .ok (.invokevirtual 433, 3) := dk_182 1 177 (dk_at dksX48_product_11 0 rfl rfl)
theorem dX48_product_262 : decode cX48_product 262 = .ok (.i2l, 1) := dk_133 (dk_at dksX48_product_11 3 rfl rfl)
theorem dX48_product_263 : decode cX48_product 263 = .ok (.goto 4, 3) := dk_167 0 4 (dk_at dksX48_product_11 4 rfl rfl)
theorem dX48_product_266 : decode cX48_product 266 = .ok (.lconst 0, 1) := dk_9 (dk_at dksX48_product_11 7 rfl rfl)
theorem dX48_product_267 : decode cX48_product 267 = .ok (.lreturn, 1) := dk_173 (dk_at dksX48_product_11 8 rfl rfl)
theorem dX48_product_268 : decode cX48_product 268 = .ok (.aload_n 0, 1) := dk_42 (dk_at dksX48_product_11 9 rfl rfl)
theorem dX48_product_269 : decode cX48_product 269 = .ok (.ldc_w 806, 3) := dk_19 3 38 (dk_at dksX48_product_11 10 rfl rfl)
theorem dX48_product_272 : decode cX48_product 272 = .ok (.ldc_w 278, 3) := dk_19 1 22 (dk_at dksX48_product_11 13 rfl rfl)
theorem dX48_product_275 : decode cX48_product 275 = .ok (.invokevirtual 263, 3) := dk_182 1 7 (dk_at dksX48_product_11 16 rfl rfl)
theorem dX48_product_278 : decode cX48_product 278 = .ok (.ifCond .eq 30, 3) := dk_153 0 30 (dk_at dksX48_product_11 19 rfl rfl)
theorem dX48_product_281 : decode cX48_product 281 = .ok (.aload_n 0, 1) := dk_42 (dk_at dksX48_product_11 22 rfl rfl)
theorem dX48_product_282 : decode cX48_product 282 = .ok (.getfield 167, 3) := dk_180 0 167 (dk_at dksX48_product_12 0 rfl rfl)
theorem dX48_product_285 : decode cX48_product 285 = .ok (.ifCond .ge 21, 3) := dk_156 0 21 (dk_at dksX48_product_12 3 rfl rfl)
theorem dX48_product_288 : decode cX48_product 288 = .ok (.aload_n 0, 1) := dk_42 (dk_at dksX48_product_12 6 rfl rfl)
theorem dX48_product_289 : decode cX48_product 289 = .ok (.getfield 49, 3) := dk_180 0 49 (dk_at dksX48_product_12 7 rfl rfl)
theorem dX48_product_292 : decode cX48_product 292 = .ok (.aload_n 0, 1) := dk_42 (dk_at dksX48_product_12 10 rfl rfl)
theorem dX48_product_293 : decode cX48_product 293 = .ok (.getfield 99, 3) := dk_180 0 99 (dk_at dksX48_product_12 11 rfl rfl)
theorem dX48_product_296 : decode cX48_product 296 = .ok (.iconst 0, 1) := dk_3 (dk_at dksX48_product_12 14 rfl rfl)
theorem dX48_product_297 : decode cX48_product 297 = .ok (.laload, 1) := dk_47 (dk_at dksX48_product_12 15 rfl rfl)
theorem dX48_product_298 : decode cX48_product 298 = .ok (.l2i, 1) := dk_136 (dk_at dksX48_product_12 16 rfl rfl)
theorem dX48_product_299 : decode cX48_product 299 = .ok (.invokevirtual 411, 3) := dk_182 1 155 (dk_at dksX48_product_12 17 rfl rfl)
theorem dX48_product_302 : decode cX48_product 302 = .ok (.i2l, 1) := dk_133 (dk_at dksX48_product_12 20 rfl rfl)
theorem dX48_product_303 : decode cX48_product 303 = .ok (.goto 4, 3) := dk_167 0 4 (dk_at dksX48_product_12 21 rfl rfl)
theorem dX48_product_306 : decode cX48_product 306 = .ok (.lconst 0, 1) := dk_9 (dk_at dksX48_product_13 0 rfl rfl)
theorem dX48_product_307 : decode cX48_product 307 = .ok (.lreturn, 1) := dk_173 (dk_at dksX48_product_13 1 rfl rfl)
theorem dX48_product_308 : decode cX48_product 308 = .ok (.aload_n 0, 1) := dk_42 (dk_at dksX48_product_13 2 rfl rfl)
theorem dX48_product_309 : decode cX48_product 309 = .ok (.ldc_w 807, 3) := dk_19 3 39 (dk_at dksX48_product_13 3 rfl rfl)
theorem dX48_product_312 : decode cX48_product 312 = .ok (.ldc_w 292, 3) := dk_19 1 36 (dk_at dksX48_product_13 6 rfl rfl)
theorem dX48_product_315 : decode cX48_product 315 = .ok (.invokevirtual 263, 3) := dk_182 1 7 (dk_at dksX48_product_13 9 rfl rfl)
theorem dX48_product_318 : decode cX48_product 318 = .ok (.ifCond .eq 39, 3) := dk_153 0 39 (dk_at dksX48_product_13 12 rfl rfl)
theorem dX48_product_321 : decode cX48_product 321 = .ok (.aload_n 0, 1) := dk_42 (dk_at dksX48_product_13 15 rfl rfl)
theorem dX48_product_322 : decode cX48_product 322 = .ok (.getfield 167, 3) := dk_180 0 167 (dk_at dksX48_product_13 16 rfl rfl)
theorem dX48_product_325 : decode cX48_product 325 = .ok (.ifCond .ge 30, 3) := dk_156 0 30 (dk_at dksX48_product_13 19 rfl rfl)
theorem dX48_product_328 : decode cX48_product 328 = .ok (.aload_n 0, 1) := dk_42 (dk_at dksX48_product_13 22 rfl rfl)
theorem dX48_product_329 : decode cX48_product 329 = .ok (.getfield 49, 3) := dk_180 0 49 (dk_at dksX48_product_14 0 rfl rfl)
theorem dX48_product_332 : decode cX48_product 332 = .ok (.aload_n 0, 1) := dk_42 (dk_at dksX48_product_14 3 rfl rfl)
theorem dX48_product_333 : decode cX48_product 333 = .ok (.getfield 99, 3) := dk_180 0 99 (dk_at dksX48_product_14 4 rfl rfl)
theorem dX48_product_336 : decode cX48_product 336 = .ok (.iconst 0, 1) := dk_3 (dk_at dksX48_product_14 7 rfl rfl)
theorem dX48_product_337 : decode cX48_product 337 = .ok (.laload, 1) := dk_47 (dk_at dksX48_product_14 8 rfl rfl)
theorem dX48_product_338 : decode cX48_product 338 = .ok (.l2i, 1) := dk_136 (dk_at dksX48_product_14 9 rfl rfl)
theorem dX48_product_339 : decode cX48_product 339 = .ok (.aload_n 0, 1) := dk_42 (dk_at dksX48_product_14 10 rfl rfl)
theorem dX48_product_340 : decode cX48_product 340 = .ok (.getfield 99, 3) := dk_180 0 99 (dk_at dksX48_product_14 11 rfl rfl)
theorem dX48_product_343 : decode cX48_product 343 = .ok (.iconst 1, 1) := dk_4 (dk_at dksX48_product_14 14 rfl rfl)
theorem dX48_product_344 : decode cX48_product 344 = .ok (.laload, 1) := dk_47 (dk_at dksX48_product_14 15 rfl rfl)
theorem dX48_product_345 : decode cX48_product 345 = .ok (.l2i, 1) := dk_136 (dk_at dksX48_product_14 16 rfl rfl)
theorem dX48_product_346 : decode cX48_product 346 = .ok (.invokevirtual 809, 3) := dk_182 3 41 (dk_at dksX48_product_14 17 rfl rfl)
theorem dX48_product_349 : decode cX48_product 349 = .ok (.invokestatic 328, 3) := dk_184 1 72 (dk_at dksX48_product_14 20 rfl rfl)
theorem dX48_product_352 : decode cX48_product 352 = .ok (.goto 4, 3) := dk_167 0 4 (dk_at dksX48_product_15 0 rfl rfl)
theorem dX48_product_355 : decode cX48_product 355 = .ok (.lconst 0, 1) := dk_9 (dk_at dksX48_product_15 3 rfl rfl)
theorem dX48_product_356 : decode cX48_product 356 = .ok (.lreturn, 1) := dk_173 (dk_at dksX48_product_15 4 rfl rfl)
theorem dX48_product_357 : decode cX48_product 357 = .ok (.aload_n 0, 1) := dk_42 (dk_at dksX48_product_15 5 rfl rfl)
theorem dX48_product_358 : decode cX48_product 358 = .ok (.ldc_w 811, 3) := dk_19 3 43 (dk_at dksX48_product_15 6 rfl rfl)
theorem dX48_product_361 : decode cX48_product 361 = .ok (.ldc_w 292, 3) := dk_19 1 36 (dk_at dksX48_product_15 9 rfl rfl)
theorem dX48_product_364 : decode cX48_product 364 = .ok (.invokevirtual 263, 3) := dk_182 1 7 (dk_at dksX48_product_15 12 rfl rfl)
theorem dX48_product_367 : decode cX48_product 367 = .ok (.ifCond .eq 37, 3) := dk_153 0 37 (dk_at dksX48_product_15 15 rfl rfl)
theorem dX48_product_370 : decode cX48_product 370 = .ok (.aload_n 0, 1) := dk_42 (dk_at dksX48_product_15 18 rfl rfl)
theorem dX48_product_371 : decode cX48_product 371 = .ok (.getfield 167, 3) := dk_180 0 167 (dk_at dksX48_product_15 19 rfl rfl)
theorem dX48_product_374 : decode cX48_product 374 = .ok (.ifCond .ge 28, 3) := dk_156 0 28 (dk_at dksX48_product_16 0 rfl rfl)
theorem dX48_product_377 : decode cX48_product 377 = .ok (.aload_n 0, 1) := dk_42 (dk_at dksX48_product_16 3 rfl rfl)
theorem dX48_product_378 : decode cX48_product 378 = .ok (.getfield 49, 3) := dk_180 0 49 (dk_at dksX48_product_16 4 rfl rfl)
theorem dX48_product_381 : decode cX48_product 381 = .ok (.aload_n 0, 1) := dk_42 (dk_at dksX48_product_16 7 rfl rfl)
theorem dX48_product_382 : decode cX48_product 382 = .ok (.getfield 99, 3) := dk_180 0 99 (dk_at dksX48_product_16 8 rfl rfl)
theorem dX48_product_385 : decode cX48_product 385 = .ok (.iconst 0, 1) := dk_3 (dk_at dksX48_product_16 11 rfl rfl)
theorem dX48_product_386 : decode cX48_product 386 = .ok (.laload, 1) := dk_47 (dk_at dksX48_product_16 12 rfl rfl)
theorem dX48_product_387 : decode cX48_product 387 = .ok (.l2i, 1) := dk_136 (dk_at dksX48_product_16 13 rfl rfl)
theorem dX48_product_388 : decode cX48_product 388 = .ok (.aload_n 0, 1) := dk_42 (dk_at dksX48_product_16 14 rfl rfl)
theorem dX48_product_389 : decode cX48_product 389 = .ok (.getfield 99, 3) := dk_180 0 99 (dk_at dksX48_product_16 15 rfl rfl)
theorem dX48_product_392 : decode cX48_product 392 = .ok (.iconst 1, 1) := dk_4 (dk_at dksX48_product_16 18 rfl rfl)
theorem dX48_product_393 : decode cX48_product 393 = .ok (.laload, 1) := dk_47 (dk_at dksX48_product_16 19 rfl rfl)
theorem dX48_product_394 : decode cX48_product 394 = .ok (.l2i, 1) := dk_136 (dk_at dksX48_product_16 20 rfl rfl)
theorem dX48_product_395 : decode cX48_product 395 = .ok (.invokevirtual 813, 3) := dk_182 3 45 (dk_at dksX48_product_16 21 rfl rfl)
theorem dX48_product_398 : decode cX48_product 398 = .ok (.i2l, 1) := dk_133 (dk_at dksX48_product_17 0 rfl rfl)
theorem dX48_product_399 : decode cX48_product 399 = .ok (.goto 4, 3) := dk_167 0 4 (dk_at dksX48_product_17 1 rfl rfl)
theorem dX48_product_402 : decode cX48_product 402 = .ok (.lconst 0, 1) := dk_9 (dk_at dksX48_product_17 4 rfl rfl)
theorem dX48_product_403 : decode cX48_product 403 = .ok (.lreturn, 1) := dk_173 (dk_at dksX48_product_17 5 rfl rfl)
theorem dX48_product_404 : decode cX48_product 404 = .ok (.aload_n 0, 1) := dk_42 (dk_at dksX48_product_17 6 rfl rfl)
theorem dX48_product_405 : decode cX48_product 405 = .ok (.ldc_w 815, 3) := dk_19 3 47 (dk_at dksX48_product_17 7 rfl rfl)
theorem dX48_product_408 : decode cX48_product 408 = .ok (.ldc_w 498, 3) := dk_19 1 242 (dk_at dksX48_product_17 10 rfl rfl)
theorem dX48_product_411 : decode cX48_product 411 = .ok (.invokevirtual 263, 3) := dk_182 1 7 (dk_at dksX48_product_17 13 rfl rfl)
theorem dX48_product_414 : decode cX48_product 414 = .ok (.ifCond .eq 46, 3) := dk_153 0 46 (dk_at dksX48_product_17 16 rfl rfl)
theorem dX48_product_417 : decode cX48_product 417 = .ok (.aload_n 0, 1) := dk_42 (dk_at dksX48_product_17 19 rfl rfl)
theorem dX48_product_418 : decode cX48_product 418 = .ok (.getfield 167, 3) := dk_180 0 167 (dk_at dksX48_product_17 20 rfl rfl)
theorem dX48_product_421 : decode cX48_product 421 = .ok (.ifCond .ge 37, 3) := dk_156 0 37 (dk_at dksX48_product_18 0 rfl rfl)
theorem dX48_product_424 : decode cX48_product 424 = .ok (.aload_n 0, 1) := dk_42 (dk_at dksX48_product_18 3 rfl rfl)
theorem dX48_product_425 : decode cX48_product 425 = .ok (.getfield 49, 3) := dk_180 0 49 (dk_at dksX48_product_18 4 rfl rfl)
theorem dX48_product_428 : decode cX48_product 428 = .ok (.aload_n 0, 1) := dk_42 (dk_at dksX48_product_18 7 rfl rfl)
theorem dX48_product_429 : decode cX48_product 429 = .ok (.getfield 99, 3) := dk_180 0 99 (dk_at dksX48_product_18 8 rfl rfl)
theorem dX48_product_432 : decode cX48_product 432 = .ok (.iconst 0, 1) := dk_3 (dk_at dksX48_product_18 11 rfl rfl)
theorem dX48_product_433 : decode cX48_product 433 = .ok (.laload, 1) := dk_47 (dk_at dksX48_product_18 12 rfl rfl)
theorem dX48_product_434 : decode cX48_product 434 = .ok (.l2i, 1) := dk_136 (dk_at dksX48_product_18 13 rfl rfl)
theorem dX48_product_435 : decode cX48_product 435 = .ok (.aload_n 0, 1) := dk_42 (dk_at dksX48_product_18 14 rfl rfl)
theorem dX48_product_436 : decode cX48_product 436 = .ok (.getfield 99, 3) := dk_180 0 99 (dk_at dksX48_product_18 15 rfl rfl)
theorem dX48_product_439 : decode cX48_product 439 = .ok (.iconst 1, 1) := dk_4 (dk_at dksX48_product_18 18 rfl rfl)
theorem dX48_product_440 : decode cX48_product 440 = .ok (.laload, 1) := dk_47 (dk_at dksX48_product_18 19 rfl rfl)
theorem dX48_product_441 : decode cX48_product 441 = .ok (.l2i, 1) := dk_136 (dk_at dksX48_product_18 20 rfl rfl)
theorem dX48_product_442 : decode cX48_product 442 = .ok (.aload_n 0, 1) := dk_42 (dk_at dksX48_product_18 21 rfl rfl)
theorem dX48_product_443 : decode cX48_product 443 = .ok (.getfield 99, 3) := dk_180 0 99 (dk_at dksX48_product_19 0 rfl rfl)
theorem dX48_product_446 : decode cX48_product 446 = .ok (.iconst 2, 1) := dk_5 (dk_at dksX48_product_19 3 rfl rfl)
theorem dX48_product_447 : decode cX48_product 447 = .ok (.laload, 1) := dk_47 (dk_at dksX48_product_19 4 rfl rfl)
theorem dX48_product_448 : decode cX48_product 448 = .ok (.l2i, 1) := dk_136 (dk_at dksX48_product_19 5 rfl rfl)
theorem dX48_product_449 : decode cX48_product 449 = .ok (.invokevirtual 817, 3) := dk_182 3 49 (dk_at dksX48_product_19 6 rfl rfl)
theorem dX48_product_452 : decode cX48_product 452 = .ok (.invokestatic 328, 3) := dk_184 1 72 (dk_at dksX48_product_19 9 rfl rfl)
theorem dX48_product_455 : decode cX48_product 455 = .ok (.goto 4, 3) := dk_167 0 4 (dk_at dksX48_product_19 12 rfl rfl)
theorem dX48_product_458 : decode cX48_product 458 = .ok (.lconst 0, 1) := dk_9 (dk_at dksX48_product_19 15 rfl rfl)
theorem dX48_product_459 : decode cX48_product 459 = .ok (.lreturn, 1) := dk_173 (dk_at dksX48_product_19 16 rfl rfl)
theorem dX48_product_460 : decode cX48_product 460 = .ok (.aload_n 0, 1) := dk_42 (dk_at dksX48_product_19 17 rfl rfl)
theorem dX48_product_461 : decode cX48_product 461 = .ok (.ldc_w 819, 3) := dk_19 3 51 (dk_at dksX48_product_19 18 rfl rfl)
theorem dX48_product_464 : decode cX48_product 464 = .ok (.ldc_w 292, 3) := dk_19 1 36 (dk_at dksX48_product_19 21 rfl rfl)
theorem dX48_product_467 : decode cX48_product 467 = .ok (.invokevirtual 263, 3) := dk_182 1 7 (dk_at dksX48_product_20 0 rfl rfl)
theorem dX48_product_470 : decode cX48_product 470 = .ok (.ifCond .eq 37, 3) := dk_153 0 37 (dk_at dksX48_product_20 3 rfl rfl)
theorem dX48_product_473 : decode cX48_product 473 = .ok (.aload_n 0, 1) := dk_42 (dk_at dksX48_product_20 6 rfl rfl)
theorem dX48_product_474 : decode cX48_product 474 = .ok (.getfield 167, 3) := dk_180 0 167 (dk_at dksX48_product_20 7 rfl rfl)
theorem dX48_product_477 : decode cX48_product 477 = .ok (.ifCond .ge 28, 3) := dk_156 0 28 (dk_at dksX48_product_20 10 rfl rfl)
theorem dX48_product_480 : decode cX48_product 480 = .ok (.aload_n 0, 1) := dk_42 (dk_at dksX48_product_20 13 rfl rfl)
theorem dX48_product_481 : decode cX48_product 481 = .ok (.getfield 49, 3) := dk_180 0 49 (dk_at dksX48_product_20 14 rfl rfl)
theorem dX48_product_484 : decode cX48_product 484 = .ok (.aload_n 0, 1) := dk_42 (dk_at dksX48_product_20 17 rfl rfl)
theorem dX48_product_485 : decode cX48_product 485 = .ok (.getfield 99, 3) := dk_180 0 99 (dk_at dksX48_product_20 18 rfl rfl)
theorem dX48_product_488 : decode cX48_product 488 = .ok (.iconst 0, 1) := dk_3 (dk_at dksX48_product_20 21 rfl rfl)
theorem dX48_product_489 : decode cX48_product 489 = .ok (.laload, 1) := dk_47 (dk_at dksX48_product_20 22 rfl rfl)
theorem dX48_product_490 : decode cX48_product 490 = .ok (.l2i, 1) := dk_136 (dk_at dksX48_product_20 23 rfl rfl)
theorem dX48_product_491 : decode cX48_product 491 = .ok (.aload_n 0, 1) := dk_42 (dk_at dksX48_product_21 0 rfl rfl)
theorem dX48_product_492 : decode cX48_product 492 = .ok (.getfield 99, 3) := dk_180 0 99 (dk_at dksX48_product_21 1 rfl rfl)
theorem dX48_product_495 : decode cX48_product 495 = .ok (.iconst 1, 1) := dk_4 (dk_at dksX48_product_21 4 rfl rfl)
theorem dX48_product_496 : decode cX48_product 496 = .ok (.laload, 1) := dk_47 (dk_at dksX48_product_21 5 rfl rfl)
theorem dX48_product_497 : decode cX48_product 497 = .ok (.l2i, 1) := dk_136 (dk_at dksX48_product_21 6 rfl rfl)
theorem dX48_product_498 : decode cX48_product 498 = .ok (.invokevirtual 821, 3) := dk_182 3 53 (dk_at dksX48_product_21 7 rfl rfl)
theorem dX48_product_501 : decode cX48_product 501 = .ok (.i2l, 1) := dk_133 (dk_at dksX48_product_21 10 rfl rfl)
theorem dX48_product_502 : decode cX48_product 502 = .ok (.goto 4, 3) := dk_167 0 4 (dk_at dksX48_product_21 11 rfl rfl)
theorem dX48_product_505 : decode cX48_product 505 = .ok (.lconst 0, 1) := dk_9 (dk_at dksX48_product_21 14 rfl rfl)
theorem dX48_product_506 : decode cX48_product 506 = .ok (.lreturn, 1) := dk_173 (dk_at dksX48_product_21 15 rfl rfl)
theorem dX48_product_507 : decode cX48_product 507 = .ok (.aload_n 0, 1) := dk_42 (dk_at dksX48_product_21 16 rfl rfl)
theorem dX48_product_508 : decode cX48_product 508 = .ok (.ldc_w 823, 3) := dk_19 3 55 (dk_at dksX48_product_21 17 rfl rfl)
theorem dX48_product_511 : decode cX48_product 511 = .ok (.ldc_w 278, 3) := dk_19 1 22 (dk_at dksX48_product_21 20 rfl rfl)
theorem dX48_product_514 : decode cX48_product 514 = .ok (.invokevirtual 263, 3) := dk_182 1 7 (dk_at dksX48_product_22 0 rfl rfl)
theorem dX48_product_517 : decode cX48_product 517 = .ok (.ifCond .eq 29, 3) := dk_153 0 29 (dk_at dksX48_product_22 3 rfl rfl)
theorem dX48_product_520 : decode cX48_product 520 = .ok (.aload_n 0, 1) := dk_42 (dk_at dksX48_product_22 6 rfl rfl)
theorem dX48_product_521 : decode cX48_product 521 = .ok (.getfield 167, 3) := dk_180 0 167 (dk_at dksX48_product_22 7 rfl rfl)
theorem dX48_product_524 : decode cX48_product 524 = .ok (.ifCond .ge 20, 3) := dk_156 0 20 (dk_at dksX48_product_22 10 rfl rfl)
theorem dX48_product_527 : decode cX48_product 527 = .ok (.aload_n 0, 1) := dk_42 (dk_at dksX48_product_22 13 rfl rfl)
theorem dX48_product_528 : decode cX48_product 528 = .ok (.getfield 49, 3) := dk_180 0 49 (dk_at dksX48_product_22 14 rfl rfl)
theorem dX48_product_531 : decode cX48_product 531 = .ok (.aload_n 0, 1) := dk_42 (dk_at dksX48_product_22 17 rfl rfl)
theorem dX48_product_532 : decode cX48_product 532 = .ok (.getfield 99, 3) := dk_180 0 99 (dk_at dksX48_product_22 18 rfl rfl)
theorem dX48_product_535 : decode cX48_product 535 = .ok (.iconst 0, 1) := dk_3 (dk_at dksX48_product_22 21 rfl rfl)
theorem dX48_product_536 : decode cX48_product 536 = .ok (.laload, 1) := dk_47 (dk_at dksX48_product_22 22 rfl rfl)
theorem dX48_product_537 : decode cX48_product 537 = .ok (.l2i, 1) := dk_136 (dk_at dksX48_product_22 23 rfl rfl)
theorem dX48_product_538 : decode cX48_product 538 = .ok (.invokevirtual 825, 3) := dk_182 3 57 (dk_at dksX48_product_23 0 rfl rfl)
theorem dX48_product_541 : decode cX48_product 541 = .ok (.goto 4, 3) := dk_167 0 4 (dk_at dksX48_product_23 3 rfl rfl)
theorem dX48_product_544 : decode cX48_product 544 = .ok (.lconst 0, 1) := dk_9 (dk_at dksX48_product_23 6 rfl rfl)
theorem dX48_product_545 : decode cX48_product 545 = .ok (.lreturn, 1) := dk_173 (dk_at dksX48_product_23 7 rfl rfl)
theorem dX48_product_546 : decode cX48_product 546 = .ok (.aload_n 0, 1) := dk_42 (dk_at dksX48_product_23 8 rfl rfl)
theorem dX48_product_547 : decode cX48_product 547 = .ok (.ldc_w 827, 3) := dk_19 3 59 (dk_at dksX48_product_23 9 rfl rfl)
theorem dX48_product_550 : decode cX48_product 550 = .ok (.ldc_w 292, 3) := dk_19 1 36 (dk_at dksX48_product_23 12 rfl rfl)
theorem dX48_product_553 : decode cX48_product 553 = .ok (.invokevirtual 263, 3) := dk_182 1 7 (dk_at dksX48_product_23 15 rfl rfl)
theorem dX48_product_556 : decode cX48_product 556 = .ok (.ifCond .eq 39, 3) := dk_153 0 39 (dk_at dksX48_product_23 18 rfl rfl)
theorem dX48_product_559 : decode cX48_product 559 = .ok (.aload_n 0, 1) := dk_42 (dk_at dksX48_product_23 21 rfl rfl)
theorem dX48_product_560 : decode cX48_product 560 = .ok (.getfield 167, 3) := dk_180 0 167 (dk_at dksX48_product_24 0 rfl rfl)
theorem dX48_product_563 : decode cX48_product 563 = .ok (.ifCond .ge 30, 3) := dk_156 0 30 (dk_at dksX48_product_24 3 rfl rfl)
theorem dX48_product_566 : decode cX48_product 566 = .ok (.aload_n 0, 1) := dk_42 (dk_at dksX48_product_24 6 rfl rfl)
theorem dX48_product_567 : decode cX48_product 567 = .ok (.getfield 49, 3) := dk_180 0 49 (dk_at dksX48_product_24 7 rfl rfl)
theorem dX48_product_570 : decode cX48_product 570 = .ok (.aload_n 0, 1) := dk_42 (dk_at dksX48_product_24 10 rfl rfl)
theorem dX48_product_571 : decode cX48_product 571 = .ok (.getfield 99, 3) := dk_180 0 99 (dk_at dksX48_product_24 11 rfl rfl)
theorem dX48_product_574 : decode cX48_product 574 = .ok (.iconst 0, 1) := dk_3 (dk_at dksX48_product_24 14 rfl rfl)
theorem dX48_product_575 : decode cX48_product 575 = .ok (.laload, 1) := dk_47 (dk_at dksX48_product_24 15 rfl rfl)
theorem dX48_product_576 : decode cX48_product 576 = .ok (.l2i, 1) := dk_136 (dk_at dksX48_product_24 16 rfl rfl)
theorem dX48_product_577 : decode cX48_product 577 = .ok (.aload_n 0, 1) := dk_42 (dk_at dksX48_product_24 17 rfl rfl)
theorem dX48_product_578 : decode cX48_product 578 = .ok (.getfield 99, 3) := dk_180 0 99 (dk_at dksX48_product_24 18 rfl rfl)
theorem dX48_product_581 : decode cX48_product 581 = .ok (.iconst 1, 1) := dk_4 (dk_at dksX48_product_24 21 rfl rfl)
theorem dX48_product_582 : decode cX48_product 582 = .ok (.laload, 1) := dk_47 (dk_at dksX48_product_24 22 rfl rfl)
theorem dX48_product_583 : decode cX48_product 583 = .ok (.l2i, 1) := dk_136 (dk_at dksX48_product_24 23 rfl rfl)
theorem dX48_product_584 : decode cX48_product 584 = .ok (.invokevirtual 829, 3) := dk_182 3 61 (dk_at dksX48_product_25 0 rfl rfl)
theorem dX48_product_587 : decode cX48_product 587 = .ok (.invokestatic 328, 3) := dk_184 1 72 (dk_at dksX48_product_25 3 rfl rfl)
theorem dX48_product_590 : decode cX48_product 590 = .ok (.goto 4, 3) := dk_167 0 4 (dk_at dksX48_product_25 6 rfl rfl)
theorem dX48_product_593 : decode cX48_product 593 = .ok (.lconst 0, 1) := dk_9 (dk_at dksX48_product_25 9 rfl rfl)
theorem dX48_product_594 : decode cX48_product 594 = .ok (.lreturn, 1) := dk_173 (dk_at dksX48_product_25 10 rfl rfl)
theorem dX48_product_595 : decode cX48_product 595 = .ok (.aload_n 0, 1) := dk_42 (dk_at dksX48_product_25 11 rfl rfl)
theorem dX48_product_596 : decode cX48_product 596 = .ok (.ldc_w 831, 3) := dk_19 3 63 (dk_at dksX48_product_25 12 rfl rfl)
theorem dX48_product_599 : decode cX48_product 599 = .ok (.ldc_w 292, 3) := dk_19 1 36 (dk_at dksX48_product_25 15 rfl rfl)
theorem dX48_product_602 : decode cX48_product 602 = .ok (.invokevirtual 263, 3) := dk_182 1 7 (dk_at dksX48_product_25 18 rfl rfl)
theorem dX48_product_605 : decode cX48_product 605 = .ok (.ifCond .eq 37, 3) := dk_153 0 37 (dk_at dksX48_product_25 21 rfl rfl)
theorem dX48_product_608 : decode cX48_product 608 = .ok (.aload_n 0, 1) := dk_42 (dk_at dksX48_product_26 0 rfl rfl)
theorem dX48_product_609 : decode cX48_product 609 = .ok (.getfield 167, 3) := dk_180 0 167 (dk_at dksX48_product_26 1 rfl rfl)
theorem dX48_product_612 : decode cX48_product 612 = .ok (.ifCond .ge 28, 3) := dk_156 0 28 (dk_at dksX48_product_26 4 rfl rfl)
theorem dX48_product_615 : decode cX48_product 615 = .ok (.aload_n 0, 1) := dk_42 (dk_at dksX48_product_26 7 rfl rfl)
theorem dX48_product_616 : decode cX48_product 616 = .ok (.getfield 49, 3) := dk_180 0 49 (dk_at dksX48_product_26 8 rfl rfl)
theorem dX48_product_619 : decode cX48_product 619 = .ok (.aload_n 0, 1) := dk_42 (dk_at dksX48_product_26 11 rfl rfl)
theorem dX48_product_620 : decode cX48_product 620 = .ok (.getfield 99, 3) := dk_180 0 99 (dk_at dksX48_product_26 12 rfl rfl)
theorem dX48_product_623 : decode cX48_product 623 = .ok (.iconst 0, 1) := dk_3 (dk_at dksX48_product_26 15 rfl rfl)
theorem dX48_product_624 : decode cX48_product 624 = .ok (.laload, 1) := dk_47 (dk_at dksX48_product_26 16 rfl rfl)
theorem dX48_product_625 : decode cX48_product 625 = .ok (.l2i, 1) := dk_136 (dk_at dksX48_product_26 17 rfl rfl)
theorem dX48_product_626 : decode cX48_product 626 = .ok (.aload_n 0, 1) := dk_42 (dk_at dksX48_product_26 18 rfl rfl)
theorem dX48_product_627 : decode cX48_product 627 = .ok (.getfield 99, 3) := dk_180 0 99 (dk_at dksX48_product_26 19 rfl rfl)
theorem dX48_product_630 : decode cX48_product 630 = .ok (.iconst 1, 1) := dk_4 (dk_at dksX48_product_26 22 rfl rfl)
theorem dX48_product_631 : decode cX48_product 631 = .ok (.laload, 1) := dk_47 (dk_at dksX48_product_26 23 rfl rfl)
theorem dX48_product_632 : decode cX48_product 632 = .ok (.l2i, 1) := dk_136 (dk_at dksX48_product_27 0 rfl rfl)
theorem dX48_product_633 : decode cX48_product 633 = .ok (.invokevirtual 833, 3) := dk_182 3 65 (dk_at dksX48_product_27 1 rfl rfl)
theorem dX48_product_636 : decode cX48_product 636 = .ok (.i2l, 1) := dk_133 (dk_at dksX48_product_27 4 rfl rfl)
theorem dX48_product_637 : decode cX48_product 637 = .ok (.goto 4, 3) := dk_167 0 4 (dk_at dksX48_product_27 5 rfl rfl)
theorem dX48_product_640 : decode cX48_product 640 = .ok (.lconst 0, 1) := dk_9 (dk_at dksX48_product_27 8 rfl rfl)
theorem dX48_product_641 : decode cX48_product 641 = .ok (.lreturn, 1) := dk_173 (dk_at dksX48_product_27 9 rfl rfl)
theorem dX48_product_642 : decode cX48_product 642 = .ok (.aload_n 0, 1) := dk_42 (dk_at dksX48_product_27 10 rfl rfl)
theorem dX48_product_643 : decode cX48_product 643 = .ok (.ldc_w 835, 3) := dk_19 3 67 (dk_at dksX48_product_27 11 rfl rfl)
theorem dX48_product_646 : decode cX48_product 646 = .ok (.ldc_w 284, 3) := dk_19 1 28 (dk_at dksX48_product_27 14 rfl rfl)
theorem dX48_product_649 : decode cX48_product 649 = .ok (.invokevirtual 263, 3) := dk_182 1 7 (dk_at dksX48_product_27 17 rfl rfl)
theorem dX48_product_652 : decode cX48_product 652 = .ok (.ifCond .eq 38, 3) := dk_153 0 38 (dk_at dksX48_product_27 20 rfl rfl)
theorem dX48_product_655 : decode cX48_product 655 = .ok (.aload_n 0, 1) := dk_42 (dk_at dksX48_product_27 23 rfl rfl)
theorem dX48_product_656 : decode cX48_product 656 = .ok (.getfield 167, 3) := dk_180 0 167 (dk_at dksX48_product_28 0 rfl rfl)
theorem dX48_product_659 : decode cX48_product 659 = .ok (.ifCond .ge 29, 3) := dk_156 0 29 (dk_at dksX48_product_28 3 rfl rfl)
theorem dX48_product_662 : decode cX48_product 662 = .ok (.aload_n 0, 1) := dk_42 (dk_at dksX48_product_28 6 rfl rfl)
theorem dX48_product_663 : decode cX48_product 663 = .ok (.getfield 49, 3) := dk_180 0 49 (dk_at dksX48_product_28 7 rfl rfl)
theorem dX48_product_666 : decode cX48_product 666 = .ok (.aload_n 0, 1) := dk_42 (dk_at dksX48_product_28 10 rfl rfl)
theorem dX48_product_667 : decode cX48_product 667 = .ok (.getfield 99, 3) := dk_180 0 99 (dk_at dksX48_product_28 11 rfl rfl)
theorem dX48_product_670 : decode cX48_product 670 = .ok (.iconst 0, 1) := dk_3 (dk_at dksX48_product_28 14 rfl rfl)
theorem dX48_product_671 : decode cX48_product 671 = .ok (.laload, 1) := dk_47 (dk_at dksX48_product_28 15 rfl rfl)
theorem dX48_product_672 : decode cX48_product 672 = .ok (.l2i, 1) := dk_136 (dk_at dksX48_product_28 16 rfl rfl)
theorem dX48_product_673 : decode cX48_product 673 = .ok (.aload_n 0, 1) := dk_42 (dk_at dksX48_product_28 17 rfl rfl)
theorem dX48_product_674 : decode cX48_product 674 = .ok (.getfield 99, 3) := dk_180 0 99 (dk_at dksX48_product_28 18 rfl rfl)
theorem dX48_product_677 : decode cX48_product 677 = .ok (.iconst 1, 1) := dk_4 (dk_at dksX48_product_28 21 rfl rfl)
theorem dX48_product_678 : decode cX48_product 678 = .ok (.laload, 1) := dk_47 (dk_at dksX48_product_28 22 rfl rfl)
theorem dX48_product_679 : decode cX48_product 679 = .ok (.invokevirtual 837, 3) := dk_182 3 69 (dk_at dksX48_product_29 0 rfl rfl)
theorem dX48_product_682 : decode cX48_product 682 = .ok (.invokestatic 328, 3) := dk_184 1 72 (dk_at dksX48_product_29 3 rfl rfl)
theorem dX48_product_685 : decode cX48_product 685 = .ok (.goto 4, 3) := dk_167 0 4 (dk_at dksX48_product_29 6 rfl rfl)
theorem dX48_product_688 : decode cX48_product 688 = .ok (.lconst 0, 1) := dk_9 (dk_at dksX48_product_29 9 rfl rfl)
theorem dX48_product_689 : decode cX48_product 689 = .ok (.lreturn, 1) := dk_173 (dk_at dksX48_product_29 10 rfl rfl)
theorem dX48_product_690 : decode cX48_product 690 = .ok (.aload_n 0, 1) := dk_42 (dk_at dksX48_product_29 11 rfl rfl)
theorem dX48_product_691 : decode cX48_product 691 = .ok (.ldc_w 839, 3) := dk_19 3 71 (dk_at dksX48_product_29 12 rfl rfl)
theorem dX48_product_694 : decode cX48_product 694 = .ok (.ldc_w 284, 3) := dk_19 1 28 (dk_at dksX48_product_29 15 rfl rfl)
theorem dX48_product_697 : decode cX48_product 697 = .ok (.invokevirtual 263, 3) := dk_182 1 7 (dk_at dksX48_product_29 18 rfl rfl)
theorem dX48_product_700 : decode cX48_product 700 = .ok (.ifCond .eq 38, 3) := dk_153 0 38 (dk_at dksX48_product_29 21 rfl rfl)
theorem dX48_product_703 : decode cX48_product 703 = .ok (.aload_n 0, 1) := dk_42 (dk_at dksX48_product_30 0 rfl rfl)
theorem dX48_product_704 : decode cX48_product 704 = .ok (.getfield 167, 3) := dk_180 0 167 (dk_at dksX48_product_30 1 rfl rfl)
theorem dX48_product_707 : decode cX48_product 707 = .ok (.ifCond .ge 29, 3) := dk_156 0 29 (dk_at dksX48_product_30 4 rfl rfl)
theorem dX48_product_710 : decode cX48_product 710 = .ok (.aload_n 0, 1) := dk_42 (dk_at dksX48_product_30 7 rfl rfl)
theorem dX48_product_711 : decode cX48_product 711 = .ok (.getfield 49, 3) := dk_180 0 49 (dk_at dksX48_product_30 8 rfl rfl)
theorem dX48_product_714 : decode cX48_product 714 = .ok (.aload_n 0, 1) := dk_42 (dk_at dksX48_product_30 11 rfl rfl)
theorem dX48_product_715 : decode cX48_product 715 = .ok (.getfield 99, 3) := dk_180 0 99 (dk_at dksX48_product_30 12 rfl rfl)
theorem dX48_product_718 : decode cX48_product 718 = .ok (.iconst 0, 1) := dk_3 (dk_at dksX48_product_30 15 rfl rfl)
theorem dX48_product_719 : decode cX48_product 719 = .ok (.laload, 1) := dk_47 (dk_at dksX48_product_30 16 rfl rfl)
theorem dX48_product_720 : decode cX48_product 720 = .ok (.l2i, 1) := dk_136 (dk_at dksX48_product_30 17 rfl rfl)
theorem dX48_product_721 : decode cX48_product 721 = .ok (.aload_n 0, 1) := dk_42 (dk_at dksX48_product_30 18 rfl rfl)
theorem dX48_product_722 : decode cX48_product 722 = .ok (.getfield 99, 3) := dk_180 0 99 (dk_at dksX48_product_30 19 rfl rfl)
theorem dX48_product_725 : decode cX48_product 725 = .ok (.iconst 1, 1) := dk_4 (dk_at dksX48_product_30 22 rfl rfl)
theorem dX48_product_726 : decode cX48_product 726 = .ok (.laload, 1) := dk_47 (dk_at dksX48_product_30 23 rfl rfl)
theorem dX48_product_727 : decode cX48_product 727 = .ok (.invokevirtual 841, 3) := dk_182 3 73 (dk_at dksX48_product_31 0 rfl rfl)
theorem dX48_product_730 : decode cX48_product 730 = .ok (.invokestatic 328, 3) := dk_184 1 72 (dk_at dksX48_product_31 3 rfl rfl)
theorem dX48_product_733 : decode cX48_product 733 = .ok (.goto 4, 3) := dk_167 0 4 (dk_at dksX48_product_31 6 rfl rfl)
theorem dX48_product_736 : decode cX48_product 736 = .ok (.lconst 0, 1) := dk_9 (dk_at dksX48_product_31 9 rfl rfl)
theorem dX48_product_737 : decode cX48_product 737 = .ok (.lreturn, 1) := dk_173 (dk_at dksX48_product_31 10 rfl rfl)
theorem dX48_product_738 : decode cX48_product 738 = .ok (.aload_n 0, 1) := dk_42 (dk_at dksX48_product_31 11 rfl rfl)
theorem dX48_product_739 : decode cX48_product 739 = .ok (.ldc_w 642, 3) := dk_19 2 130 (dk_at dksX48_product_31 12 rfl rfl)
theorem dX48_product_742 : decode cX48_product 742 = .ok (.ldc_w 278, 3) := dk_19 1 22 (dk_at dksX48_product_31 15 rfl rfl)
theorem dX48_product_745 : decode cX48_product 745 = .ok (.invokevirtual 263, 3) := dk_182 1 7 (dk_at dksX48_product_31 18 rfl rfl)
theorem dX48_product_748 : decode cX48_product 748 = .ok (.ifCond .eq 30, 3) := dk_153 0 30 (dk_at dksX48_product_31 21 rfl rfl)
theorem dX48_product_751 : decode cX48_product 751 = .ok (.aload_n 0, 1) := dk_42 (dk_at dksX48_product_32 0 rfl rfl)
theorem dX48_product_752 : decode cX48_product 752 = .ok (.getfield 167, 3) := dk_180 0 167 (dk_at dksX48_product_32 1 rfl rfl)
theorem dX48_product_755 : decode cX48_product 755 = .ok (.ifCond .ge 21, 3) := dk_156 0 21 (dk_at dksX48_product_32 4 rfl rfl)
theorem dX48_product_758 : decode cX48_product 758 = .ok (.aload_n 0, 1) := dk_42 (dk_at dksX48_product_32 7 rfl rfl)
theorem dX48_product_759 : decode cX48_product 759 = .ok (.getfield 49, 3) := dk_180 0 49 (dk_at dksX48_product_32 8 rfl rfl)
theorem dX48_product_762 : decode cX48_product 762 = .ok (.aload_n 0, 1) := dk_42 (dk_at dksX48_product_32 11 rfl rfl)
theorem dX48_product_763 : decode cX48_product 763 = .ok (.getfield 99, 3) := dk_180 0 99 (dk_at dksX48_product_32 12 rfl rfl)
theorem dX48_product_766 : decode cX48_product 766 = .ok (.iconst 0, 1) := dk_3 (dk_at dksX48_product_32 15 rfl rfl)
theorem dX48_product_767 : decode cX48_product 767 = .ok (.laload, 1) := dk_47 (dk_at dksX48_product_32 16 rfl rfl)
theorem dX48_product_768 : decode cX48_product 768 = .ok (.l2i, 1) := dk_136 (dk_at dksX48_product_32 17 rfl rfl)
theorem dX48_product_769 : decode cX48_product 769 = .ok (.invokevirtual 843, 3) := dk_182 3 75 (dk_at dksX48_product_32 18 rfl rfl)
theorem dX48_product_772 : decode cX48_product 772 = .ok (.i2l, 1) := dk_133 (dk_at dksX48_product_32 21 rfl rfl)
theorem dX48_product_773 : decode cX48_product 773 = .ok (.goto 4, 3) := dk_167 0 4 (dk_at dksX48_product_33 0 rfl rfl)
theorem dX48_product_776 : decode cX48_product 776 = .ok (.lconst 0, 1) := dk_9 (dk_at dksX48_product_33 3 rfl rfl)
theorem dX48_product_777 : decode cX48_product 777 = .ok (.lreturn, 1) := dk_173 (dk_at dksX48_product_33 4 rfl rfl)
theorem dX48_product_778 : decode cX48_product 778 = .ok (.aload_n 0, 1) := dk_42 (dk_at dksX48_product_33 5 rfl rfl)
theorem dX48_product_779 : decode cX48_product 779 = .ok (.ldc_w 844, 3) := dk_19 3 76 (dk_at dksX48_product_33 6 rfl rfl)
theorem dX48_product_782 : decode cX48_product 782 = .ok (.ldc_w 272, 3) := dk_19 1 16 (dk_at dksX48_product_33 9 rfl rfl)
theorem dX48_product_785 : decode cX48_product 785 = .ok (.invokevirtual 263, 3) := dk_182 1 7 (dk_at dksX48_product_33 12 rfl rfl)
theorem dX48_product_788 : decode cX48_product 788 = .ok (.ifCond .eq 23, 3) := dk_153 0 23 (dk_at dksX48_product_33 15 rfl rfl)
theorem dX48_product_791 : decode cX48_product 791 = .ok (.aload_n 0, 1) := dk_42 (dk_at dksX48_product_33 18 rfl rfl)
theorem dX48_product_792 : decode cX48_product 792 = .ok (.getfield 167, 3) := dk_180 0 167 (dk_at dksX48_product_33 19 rfl rfl)
theorem dX48_product_795 : decode cX48_product 795 = .ok (.ifCond .ge 14, 3) := dk_156 0 14 (dk_at dksX48_product_34 0 rfl rfl)
theorem dX48_product_798 : decode cX48_product 798 = .ok (.aload_n 0, 1) := dk_42 (dk_at dksX48_product_34 3 rfl rfl)
theorem dX48_product_799 : decode cX48_product 799 = .ok (.getfield 49, 3) := dk_180 0 49 (dk_at dksX48_product_34 4 rfl rfl)
theorem dX48_product_802 : decode cX48_product 802 = .ok (.invokevirtual 846, 3) := dk_182 3 78 (dk_at dksX48_product_34 7 rfl rfl)
theorem dX48_product_805 : decode cX48_product 805 = .ok (.i2l, 1) := dk_133 (dk_at dksX48_product_34 10 rfl rfl)
theorem dX48_product_806 : decode cX48_product 806 = .ok (.goto 4, 3) := dk_167 0 4 (dk_at dksX48_product_34 11 rfl rfl)
theorem dX48_product_809 : decode cX48_product 809 = .ok (.lconst 0, 1) := dk_9 (dk_at dksX48_product_34 14 rfl rfl)
theorem dX48_product_810 : decode cX48_product 810 = .ok (.lreturn, 1) := dk_173 (dk_at dksX48_product_34 15 rfl rfl)
theorem dX48_product_811 : decode cX48_product 811 = .ok (.aload_n 0, 1) := dk_42 (dk_at dksX48_product_34 16 rfl rfl)
theorem dX48_product_812 : decode cX48_product 812 = .ok (.invokevirtual 332, 3) := dk_182 1 76 (dk_at dksX48_product_34 17 rfl rfl)
theorem dX48_product_815 : decode cX48_product 815 = .ok (.lreturn, 1) := dk_173 (dk_at dksX48_product_34 20 rfl rfl)
abbrev cX48_productRead : ByteArray := prog_56_method_25_code
def yX48_productRead : MethodName := ⟨RX48, "productRead", "()J"⟩
def dkwX48_productRead_1 : List UInt8 := [17, 0, 255, 126, 182, 0, 254, 61, 132, 1, 1, 167, 255, 227, 42, 180, 0, 49, 182, 0, 255, 133, 173]
abbrev dktX48_productRead_1 : List UInt8 := dkwX48_productRead_1 ++ []
def dkwX48_productRead_0 : List UInt8 := [42, 182, 0, 244, 60, 27, 42, 180, 0, 136, 162, 0, 27, 42, 180, 0, 49, 42, 180, 0, 76, 27, 51]
abbrev dktX48_productRead_0 : List UInt8 := dkwX48_productRead_0 ++ dktX48_productRead_1
theorem dksX48_productRead_0 : cX48_productRead.data.toList.drop 0 = dktX48_productRead_0 := by decide +kernel
theorem dksX48_productRead_1 : cX48_productRead.data.toList.drop 23 = dktX48_productRead_1 := dk_seg dksX48_productRead_0 23 rfl rfl
theorem dX48_productRead_0 : decode cX48_productRead 0 = .ok (.aload_n 0, 1) := dk_42 (dk_at dksX48_productRead_0 0 rfl rfl)
theorem dX48_productRead_1 : decode cX48_productRead 1 = .ok (.invokevirtual 244, 3) := dk_182 0 244 (dk_at dksX48_productRead_0 1 rfl rfl)
theorem dX48_productRead_4 : decode cX48_productRead 4 = .ok (.istore_n 1, 1) := dk_60 (dk_at dksX48_productRead_0 4 rfl rfl)
theorem dX48_productRead_5 : decode cX48_productRead 5 = .ok (.iload_n 1, 1) := dk_27 (dk_at dksX48_productRead_0 5 rfl rfl)
theorem dX48_productRead_6 : decode cX48_productRead 6 = .ok (.aload_n 0, 1) := dk_42 (dk_at dksX48_productRead_0 6 rfl rfl)
theorem dX48_productRead_7 : decode cX48_productRead 7 = .ok (.getfield 136, 3) := dk_180 0 136 (dk_at dksX48_productRead_0 7 rfl rfl)
theorem dX48_productRead_10 : decode cX48_productRead 10 = .ok (.if_icmp .ge 27, 3) := dk_162 0 27 (dk_at dksX48_productRead_0 10 rfl rfl)
theorem dX48_productRead_13 : decode cX48_productRead 13 = .ok (.aload_n 0, 1) := dk_42 (dk_at dksX48_productRead_0 13 rfl rfl)
theorem dX48_productRead_14 : decode cX48_productRead 14 = .ok (.getfield 49, 3) := dk_180 0 49 (dk_at dksX48_productRead_0 14 rfl rfl)
theorem dX48_productRead_17 : decode cX48_productRead 17 = .ok (.aload_n 0, 1) := dk_42 (dk_at dksX48_productRead_0 17 rfl rfl)
theorem dX48_productRead_18 : decode cX48_productRead 18 = .ok (.getfield 76, 3) := dk_180 0 76 (dk_at dksX48_productRead_0 18 rfl rfl)
theorem dX48_productRead_21 : decode cX48_productRead 21 = .ok (.iload_n 1, 1) := dk_27 (dk_at dksX48_productRead_0 21 rfl rfl)
theorem dX48_productRead_22 : decode cX48_productRead 22 = .ok (.baload, 1) := dk_51 (dk_at dksX48_productRead_0 22 rfl rfl)
theorem dX48_productRead_23 : decode cX48_productRead 23 = .ok (.sipush 255, 3) := dk_17 0 255 (dk_at dksX48_productRead_1 0 rfl rfl)
theorem dX48_productRead_26 : decode cX48_productRead 26 = .ok (.iand, 1) := dk_126 (dk_at dksX48_productRead_1 3 rfl rfl)
theorem dX48_productRead_27 : decode cX48_productRead 27 = .ok (.invokevirtual 254, 3) := dk_182 0 254 (dk_at dksX48_productRead_1 4 rfl rfl)
theorem dX48_productRead_30 : decode cX48_productRead 30 = .ok (.istore_n 2, 1) := dk_61 (dk_at dksX48_productRead_1 7 rfl rfl)
theorem dX48_productRead_31 : decode cX48_productRead 31 = .ok (.iinc 1 1, 3) := dk_132 1 1 (dk_at dksX48_productRead_1 8 rfl rfl)
theorem dX48_productRead_34 : decode cX48_productRead 34 = .ok (.goto (-29), 3) := dk_167 255 227 (dk_at dksX48_productRead_1 11 rfl rfl)
theorem dX48_productRead_37 : decode cX48_productRead 37 = .ok (.aload_n 0, 1) := dk_42 (dk_at dksX48_productRead_1 14 rfl rfl)
theorem dX48_productRead_38 : decode cX48_productRead 38 = .ok (.getfield 49, 3) := dk_180 0 49 (dk_at dksX48_productRead_1 15 rfl rfl)
theorem dX48_productRead_41 : decode cX48_productRead 41 = .ok (.invokevirtual 255, 3) := dk_182 0 255 (dk_at dksX48_productRead_1 18 rfl rfl)
theorem dX48_productRead_44 : decode cX48_productRead 44 = .ok (.i2l, 1) := dk_133 (dk_at dksX48_productRead_1 21 rfl rfl)
theorem dX48_productRead_45 : decode cX48_productRead 45 = .ok (.lreturn, 1) := dk_173 (dk_at dksX48_productRead_1 22 rfl rfl)
abbrev cX48_apart : ByteArray := prog_56_method_44_code
def yX48_apart : MethodName := ⟨RX48, "apart", "()J"⟩
def dkwX48_apart_35 : List UInt8 := [180, 0, 56, 42, 180, 0, 99, 3, 47, 136, 182, 3, 139, 133, 167, 0, 4, 9, 173, 42, 182, 1, 76, 173]
abbrev dktX48_apart_35 : List UInt8 := dkwX48_apart_35 ++ []
def dkwX48_apart_34 : List UInt8 := [9, 173, 42, 19, 3, 137, 19, 1, 22, 182, 1, 7, 153, 0, 30, 42, 180, 0, 167, 156, 0, 21, 42]
abbrev dktX48_apart_34 : List UInt8 := dkwX48_apart_34 ++ dktX48_apart_35
def dkwX48_apart_33 : List UInt8 := [180, 0, 167, 156, 0, 21, 42, 180, 0, 56, 42, 180, 0, 99, 3, 47, 136, 182, 3, 135, 133, 167, 0, 4]
abbrev dktX48_apart_33 : List UInt8 := dkwX48_apart_33 ++ dktX48_apart_34
def dkwX48_apart_32 : List UInt8 := [182, 3, 131, 133, 167, 0, 4, 9, 173, 42, 19, 3, 133, 19, 1, 22, 182, 1, 7, 153, 0, 30, 42]
abbrev dktX48_apart_32 : List UInt8 := dkwX48_apart_32 ++ dktX48_apart_33
def dkwX48_apart_31 : List UInt8 := [180, 0, 167, 156, 0, 27, 42, 180, 0, 56, 42, 180, 0, 99, 3, 47, 136, 42, 180, 0, 99, 4, 47]
abbrev dktX48_apart_31 : List UInt8 := dkwX48_apart_31 ++ dktX48_apart_32
def dkwX48_apart_30 : List UInt8 := [182, 3, 129, 167, 0, 4, 9, 173, 42, 19, 2, 76, 19, 1, 28, 182, 1, 7, 153, 0, 36, 42]
abbrev dktX48_apart_30 : List UInt8 := dkwX48_apart_30 ++ dktX48_apart_31
def dkwX48_apart_29 : List UInt8 := [19, 2, 176, 19, 1, 16, 182, 1, 7, 153, 0, 22, 42, 180, 0, 167, 156, 0, 13, 42, 180, 0, 56]
abbrev dktX48_apart_29 : List UInt8 := dkwX48_apart_29 ++ dktX48_apart_30
def dkwX48_apart_28 : List UInt8 := [180, 0, 167, 156, 0, 16, 42, 180, 0, 56, 182, 3, 127, 184, 1, 72, 167, 0, 4, 9, 173, 42]
abbrev dktX48_apart_28 : List UInt8 := dkwX48_apart_28 ++ dktX48_apart_29
def dkwX48_apart_27 : List UInt8 := [182, 3, 123, 167, 0, 4, 9, 173, 42, 19, 3, 125, 19, 1, 16, 182, 1, 7, 153, 0, 25, 42]
abbrev dktX48_apart_27 : List UInt8 := dkwX48_apart_27 ++ dktX48_apart_28
def dkwX48_apart_26 : List UInt8 := [182, 1, 7, 153, 0, 29, 42, 180, 0, 167, 156, 0, 20, 42, 180, 0, 56, 42, 180, 0, 99, 3, 47, 136]
abbrev dktX48_apart_26 : List UInt8 := dkwX48_apart_26 ++ dktX48_apart_27
def dkwX48_apart_25 : List UInt8 := [180, 0, 99, 3, 47, 136, 182, 3, 119, 133, 167, 0, 4, 9, 173, 42, 19, 3, 121, 19, 1, 22]
abbrev dktX48_apart_25 : List UInt8 := dkwX48_apart_25 ++ dktX48_apart_26
def dkwX48_apart_24 : List UInt8 := [19, 3, 117, 19, 1, 22, 182, 1, 7, 153, 0, 30, 42, 180, 0, 167, 156, 0, 21, 42, 180, 0, 56, 42]
abbrev dktX48_apart_24 : List UInt8 := dkwX48_apart_24 ++ dktX48_apart_25
def dkwX48_apart_23 : List UInt8 := [156, 0, 21, 42, 180, 0, 56, 42, 180, 0, 99, 3, 47, 136, 182, 3, 115, 133, 167, 0, 4, 9, 173, 42]
abbrev dktX48_apart_23 : List UInt8 := dkwX48_apart_23 ++ dktX48_apart_24
def dkwX48_apart_22 : List UInt8 := [133, 167, 0, 4, 9, 173, 42, 19, 3, 113, 19, 1, 22, 182, 1, 7, 153, 0, 30, 42, 180, 0, 167]
abbrev dktX48_apart_22 : List UInt8 := dkwX48_apart_22 ++ dktX48_apart_23
def dkwX48_apart_21 : List UInt8 := [153, 0, 30, 42, 180, 0, 167, 156, 0, 21, 42, 180, 0, 56, 42, 180, 0, 99, 3, 47, 136, 182, 3, 111]
abbrev dktX48_apart_21 : List UInt8 := dkwX48_apart_21 ++ dktX48_apart_22
def dkwX48_apart_20 : List UInt8 := [180, 0, 99, 3, 47, 182, 3, 110, 133, 167, 0, 4, 9, 173, 42, 19, 2, 238, 19, 1, 22, 182, 1, 7]
abbrev dktX48_apart_20 : List UInt8 := dkwX48_apart_20 ++ dktX48_apart_21
def dkwX48_apart_19 : List UInt8 := [19, 2, 92, 19, 2, 71, 182, 1, 7, 153, 0, 29, 42, 180, 0, 167, 156, 0, 20, 42, 180, 0, 56, 42]
abbrev dktX48_apart_19 : List UInt8 := dkwX48_apart_19 ++ dktX48_apart_20
def dkwX48_apart_18 : List UInt8 := [153, 0, 22, 42, 180, 0, 167, 156, 0, 13, 42, 180, 0, 56, 182, 3, 108, 167, 0, 4, 9, 173, 42]
abbrev dktX48_apart_18 : List UInt8 := dkwX48_apart_18 ++ dktX48_apart_19
def dkwX48_apart_17 : List UInt8 := [5, 47, 182, 3, 104, 184, 1, 72, 167, 0, 4, 9, 173, 42, 19, 3, 106, 19, 1, 16, 182, 1, 7]
abbrev dktX48_apart_17 : List UInt8 := dkwX48_apart_17 ++ dktX48_apart_18
def dkwX48_apart_16 : List UInt8 := [156, 0, 35, 42, 180, 0, 56, 42, 180, 0, 99, 3, 47, 136, 42, 180, 0, 99, 4, 47, 42, 180, 0, 99]
abbrev dktX48_apart_16 : List UInt8 := dkwX48_apart_16 ++ dktX48_apart_17
def dkwX48_apart_15 : List UInt8 := [167, 0, 4, 9, 173, 42, 19, 3, 102, 19, 2, 35, 182, 1, 7, 153, 0, 44, 42, 180, 0, 167]
abbrev dktX48_apart_15 : List UInt8 := dkwX48_apart_15 ++ dktX48_apart_16
def dkwX48_apart_14 : List UInt8 := [42, 180, 0, 167, 156, 0, 23, 42, 180, 0, 56, 42, 180, 0, 99, 3, 47, 136, 182, 3, 100, 184, 1, 72]
abbrev dktX48_apart_14 : List UInt8 := dkwX48_apart_14 ++ dktX48_apart_15
def dkwX48_apart_13 : List UInt8 := [182, 3, 95, 184, 1, 72, 167, 0, 4, 9, 173, 42, 19, 3, 98, 19, 1, 22, 182, 1, 7, 153, 0, 32]
abbrev dktX48_apart_13 : List UInt8 := dkwX48_apart_13 ++ dktX48_apart_14
def dkwX48_apart_12 : List UInt8 := [42, 180, 0, 167, 156, 0, 28, 42, 180, 0, 56, 42, 180, 0, 99, 3, 47, 42, 180, 0, 99, 4, 47]
abbrev dktX48_apart_12 : List UInt8 := dkwX48_apart_12 ++ dktX48_apart_13
def dkwX48_apart_11 : List UInt8 := [182, 3, 89, 184, 1, 72, 167, 0, 4, 9, 173, 42, 19, 3, 91, 19, 3, 93, 182, 1, 7, 153, 0, 37]
abbrev dktX48_apart_11 : List UInt8 := dkwX48_apart_11 ++ dktX48_apart_12
def dkwX48_apart_10 : List UInt8 := [180, 0, 167, 156, 0, 29, 42, 180, 0, 56, 42, 180, 0, 99, 3, 47, 136, 42, 180, 0, 99, 4, 47]
abbrev dktX48_apart_10 : List UInt8 := dkwX48_apart_10 ++ dktX48_apart_11
def dkwX48_apart_9 : List UInt8 := [184, 1, 72, 167, 0, 4, 9, 173, 42, 19, 3, 87, 19, 1, 28, 182, 1, 7, 153, 0, 38, 42]
abbrev dktX48_apart_9 : List UInt8 := dkwX48_apart_9 ++ dktX48_apart_10
def dkwX48_apart_8 : List UInt8 := [42, 180, 0, 99, 3, 47, 136, 42, 180, 0, 99, 4, 47, 136, 42, 180, 0, 99, 5, 47, 182, 3, 85]
abbrev dktX48_apart_8 : List UInt8 := dkwX48_apart_8 ++ dktX48_apart_9
def dkwX48_apart_7 : List UInt8 := [42, 19, 3, 83, 19, 1, 195, 182, 1, 7, 153, 0, 45, 42, 180, 0, 167, 156, 0, 36, 42, 180, 0, 56]
abbrev dktX48_apart_7 : List UInt8 := dkwX48_apart_7 ++ dktX48_apart_8
def dkwX48_apart_6 : List UInt8 := [42, 180, 0, 99, 4, 47, 136, 42, 180, 0, 99, 5, 47, 182, 3, 81, 184, 1, 72, 167, 0, 4, 9, 173]
abbrev dktX48_apart_6 : List UInt8 := dkwX48_apart_6 ++ dktX48_apart_7
def dkwX48_apart_5 : List UInt8 := [182, 1, 7, 153, 0, 45, 42, 180, 0, 167, 156, 0, 36, 42, 180, 0, 56, 42, 180, 0, 99, 3, 47, 136]
abbrev dktX48_apart_5 : List UInt8 := dkwX48_apart_5 ++ dktX48_apart_6
def dkwX48_apart_4 : List UInt8 := [180, 0, 99, 4, 47, 136, 182, 1, 180, 184, 1, 72, 167, 0, 4, 9, 173, 42, 19, 2, 54, 19, 1, 195]
abbrev dktX48_apart_4 : List UInt8 := dkwX48_apart_4 ++ dktX48_apart_5
def dkwX48_apart_3 : List UInt8 := [153, 0, 39, 42, 180, 0, 167, 156, 0, 30, 42, 180, 0, 56, 42, 180, 0, 99, 3, 47, 136, 42]
abbrev dktX48_apart_3 : List UInt8 := dkwX48_apart_3 ++ dktX48_apart_4
def dkwX48_apart_2 : List UInt8 := [180, 0, 99, 6, 47, 182, 1, 173, 133, 167, 0, 4, 9, 173, 42, 19, 3, 37, 19, 1, 36, 182, 1, 7]
abbrev dktX48_apart_2 : List UInt8 := dkwX48_apart_2 ++ dktX48_apart_3
def dkwX48_apart_1 : List UInt8 := [42, 180, 0, 99, 3, 47, 136, 42, 180, 0, 99, 4, 47, 136, 42, 180, 0, 99, 5, 47, 136, 42]
abbrev dktX48_apart_1 : List UInt8 := dkwX48_apart_1 ++ dktX48_apart_2
def dkwX48_apart_0 : List UInt8 := [42, 19, 3, 80, 19, 2, 141, 182, 1, 7, 153, 0, 50, 42, 180, 0, 167, 156, 0, 41, 42, 180, 0, 56]
abbrev dktX48_apart_0 : List UInt8 := dkwX48_apart_0 ++ dktX48_apart_1
theorem dksX48_apart_0 : cX48_apart.data.toList.drop 0 = dktX48_apart_0 := by decide +kernel
theorem dksX48_apart_1 : cX48_apart.data.toList.drop 24 = dktX48_apart_1 := dk_seg dksX48_apart_0 24 rfl rfl
theorem dksX48_apart_2 : cX48_apart.data.toList.drop 46 = dktX48_apart_2 := dk_seg dksX48_apart_1 22 rfl rfl
theorem dksX48_apart_3 : cX48_apart.data.toList.drop 70 = dktX48_apart_3 := dk_seg dksX48_apart_2 24 rfl rfl
theorem dksX48_apart_4 : cX48_apart.data.toList.drop 92 = dktX48_apart_4 := dk_seg dksX48_apart_3 22 rfl rfl
theorem dksX48_apart_5 : cX48_apart.data.toList.drop 116 = dktX48_apart_5 := dk_seg dksX48_apart_4 24 rfl rfl
theorem dksX48_apart_6 : cX48_apart.data.toList.drop 140 = dktX48_apart_6 := dk_seg dksX48_apart_5 24 rfl rfl
theorem dksX48_apart_7 : cX48_apart.data.toList.drop 164 = dktX48_apart_7 := dk_seg dksX48_apart_6 24 rfl rfl
theorem dksX48_apart_8 : cX48_apart.data.toList.drop 188 = dktX48_apart_8 := dk_seg dksX48_apart_7 24 rfl rfl
theorem dksX48_apart_9 : cX48_apart.data.toList.drop 211 = dktX48_apart_9 := dk_seg dksX48_apart_8 23 rfl rfl
theorem dksX48_apart_10 : cX48_apart.data.toList.drop 233 = dktX48_apart_10 := dk_seg dksX48_apart_9 22 rfl rfl
theorem dksX48_apart_11 : cX48_apart.data.toList.drop 256 = dktX48_apart_11 := dk_seg dksX48_apart_10 23 rfl rfl
theorem dksX48_apart_12 : cX48_apart.data.toList.drop 280 = dktX48_apart_12 := dk_seg dksX48_apart_11 24 rfl rfl
theorem dksX48_apart_13 : cX48_apart.data.toList.drop 303 = dktX48_apart_13 := dk_seg dksX48_apart_12 23 rfl rfl
theorem dksX48_apart_14 : cX48_apart.data.toList.drop 327 = dktX48_apart_14 := dk_seg dksX48_apart_13 24 rfl rfl
theorem dksX48_apart_15 : cX48_apart.data.toList.drop 351 = dktX48_apart_15 := dk_seg dksX48_apart_14 24 rfl rfl
theorem dksX48_apart_16 : cX48_apart.data.toList.drop 373 = dktX48_apart_16 := dk_seg dksX48_apart_15 22 rfl rfl
theorem dksX48_apart_17 : cX48_apart.data.toList.drop 397 = dktX48_apart_17 := dk_seg dksX48_apart_16 24 rfl rfl
theorem dksX48_apart_18 : cX48_apart.data.toList.drop 420 = dktX48_apart_18 := dk_seg dksX48_apart_17 23 rfl rfl
theorem dksX48_apart_19 : cX48_apart.data.toList.drop 443 = dktX48_apart_19 := dk_seg dksX48_apart_18 23 rfl rfl
theorem dksX48_apart_20 : cX48_apart.data.toList.drop 467 = dktX48_apart_20 := dk_seg dksX48_apart_19 24 rfl rfl
theorem dksX48_apart_21 : cX48_apart.data.toList.drop 491 = dktX48_apart_21 := dk_seg dksX48_apart_20 24 rfl rfl
theorem dksX48_apart_22 : cX48_apart.data.toList.drop 515 = dktX48_apart_22 := dk_seg dksX48_apart_21 24 rfl rfl
theorem dksX48_apart_23 : cX48_apart.data.toList.drop 538 = dktX48_apart_23 := dk_seg dksX48_apart_22 23 rfl rfl
theorem dksX48_apart_24 : cX48_apart.data.toList.drop 562 = dktX48_apart_24 := dk_seg dksX48_apart_23 24 rfl rfl
theorem dksX48_apart_25 : cX48_apart.data.toList.drop 586 = dktX48_apart_25 := dk_seg dksX48_apart_24 24 rfl rfl
theorem dksX48_apart_26 : cX48_apart.data.toList.drop 608 = dktX48_apart_26 := dk_seg dksX48_apart_25 22 rfl rfl
theorem dksX48_apart_27 : cX48_apart.data.toList.drop 632 = dktX48_apart_27 := dk_seg dksX48_apart_26 24 rfl rfl
theorem dksX48_apart_28 : cX48_apart.data.toList.drop 654 = dktX48_apart_28 := dk_seg dksX48_apart_27 22 rfl rfl
theorem dksX48_apart_29 : cX48_apart.data.toList.drop 676 = dktX48_apart_29 := dk_seg dksX48_apart_28 22 rfl rfl
theorem dksX48_apart_30 : cX48_apart.data.toList.drop 699 = dktX48_apart_30 := dk_seg dksX48_apart_29 23 rfl rfl
theorem dksX48_apart_31 : cX48_apart.data.toList.drop 721 = dktX48_apart_31 := dk_seg dksX48_apart_30 22 rfl rfl
theorem dksX48_apart_32 : cX48_apart.data.toList.drop 744 = dktX48_apart_32 := dk_seg dksX48_apart_31 23 rfl rfl
theorem dksX48_apart_33 : cX48_apart.data.toList.drop 767 = dktX48_apart_33 := dk_seg dksX48_apart_32 23 rfl rfl
theorem dksX48_apart_34 : cX48_apart.data.toList.drop 791 = dktX48_apart_34 := dk_seg dksX48_apart_33 24 rfl rfl
theorem dksX48_apart_35 : cX48_apart.data.toList.drop 814 = dktX48_apart_35 := dk_seg dksX48_apart_34 23 rfl rfl
theorem dX48_apart_0 : decode cX48_apart 0 = .ok (.aload_n 0, 1) := dk_42 (dk_at dksX48_apart_0 0 rfl rfl)
theorem dX48_apart_1 : decode cX48_apart 1 = .ok (.ldc_w 848, 3) := dk_19 3 80 (dk_at dksX48_apart_0 1 rfl rfl)
theorem dX48_apart_4 : decode cX48_apart 4 = .ok (.ldc_w 653, 3) := dk_19 2 141 (dk_at dksX48_apart_0 4 rfl rfl)
theorem dX48_apart_7 : decode cX48_apart 7 = .ok (.invokevirtual 263, 3) := dk_182 1 7 (dk_at dksX48_apart_0 7 rfl rfl)
theorem dX48_apart_10 : decode cX48_apart 10 = .ok (.ifCond .eq 50, 3) := dk_153 0 50 (dk_at dksX48_apart_0 10 rfl rfl)
theorem dX48_apart_13 : decode cX48_apart 13 = .ok (.aload_n 0, 1) := dk_42 (dk_at dksX48_apart_0 13 rfl rfl)
theorem dX48_apart_14 : decode cX48_apart 14 = .ok (.getfield 167, 3) := dk_180 0 167 (dk_at dksX48_apart_0 14 rfl rfl)
theorem dX48_apart_17 : decode cX48_apart 17 = .ok (.ifCond .ge 41, 3) := dk_156 0 41 (dk_at dksX48_apart_0 17 rfl rfl)
theorem dX48_apart_20 : decode cX48_apart 20 = .ok (.aload_n 0, 1) := dk_42 (dk_at dksX48_apart_0 20 rfl rfl)
theorem dX48_apart_21 : decode cX48_apart 21 = .ok (.getfield 56, 3) := dk_180 0 56 (dk_at dksX48_apart_0 21 rfl rfl)
theorem dX48_apart_24 : decode cX48_apart 24 = .ok (.aload_n 0, 1) := dk_42 (dk_at dksX48_apart_1 0 rfl rfl)
theorem dX48_apart_25 : decode cX48_apart 25 = .ok (.getfield 99, 3) := dk_180 0 99 (dk_at dksX48_apart_1 1 rfl rfl)
theorem dX48_apart_28 : decode cX48_apart 28 = .ok (.iconst 0, 1) := dk_3 (dk_at dksX48_apart_1 4 rfl rfl)
theorem dX48_apart_29 : decode cX48_apart 29 = .ok (.laload, 1) := dk_47 (dk_at dksX48_apart_1 5 rfl rfl)
theorem dX48_apart_30 : decode cX48_apart 30 = .ok (.l2i, 1) := dk_136 (dk_at dksX48_apart_1 6 rfl rfl)
theorem dX48_apart_31 : decode cX48_apart 31 = .ok (.aload_n 0, 1) := dk_42 (dk_at dksX48_apart_1 7 rfl rfl)
theorem dX48_apart_32 : decode cX48_apart 32 = .ok (.getfield 99, 3) := dk_180 0 99 (dk_at dksX48_apart_1 8 rfl rfl)
theorem dX48_apart_35 : decode cX48_apart 35 = .ok (.iconst 1, 1) := dk_4 (dk_at dksX48_apart_1 11 rfl rfl)
theorem dX48_apart_36 : decode cX48_apart 36 = .ok (.laload, 1) := dk_47 (dk_at dksX48_apart_1 12 rfl rfl)
theorem dX48_apart_37 : decode cX48_apart 37 = .ok (.l2i, 1) := dk_136 (dk_at dksX48_apart_1 13 rfl rfl)
theorem dX48_apart_38 : decode cX48_apart 38 = .ok (.aload_n 0, 1) := dk_42 (dk_at dksX48_apart_1 14 rfl rfl)
theorem dX48_apart_39 : decode cX48_apart 39 = .ok (.getfield 99, 3) := dk_180 0 99 (dk_at dksX48_apart_1 15 rfl rfl)
theorem dX48_apart_42 : decode cX48_apart 42 = .ok (.iconst 2, 1) := dk_5 (dk_at dksX48_apart_1 18 rfl rfl)
theorem dX48_apart_43 : decode cX48_apart 43 = .ok (.laload, 1) := dk_47 (dk_at dksX48_apart_1 19 rfl rfl)
theorem dX48_apart_44 : decode cX48_apart 44 = .ok (.l2i, 1) := dk_136 (dk_at dksX48_apart_1 20 rfl rfl)
theorem dX48_apart_45 : decode cX48_apart 45 = .ok (.aload_n 0, 1) := dk_42 (dk_at dksX48_apart_1 21 rfl rfl)
theorem dX48_apart_46 : decode cX48_apart 46 = .ok (.getfield 99, 3) := dk_180 0 99 (dk_at dksX48_apart_2 0 rfl rfl)
theorem dX48_apart_49 : decode cX48_apart 49 = .ok (.iconst 3, 1) := dk_6 (dk_at dksX48_apart_2 3 rfl rfl)
theorem dX48_apart_50 : decode cX48_apart 50 = .ok (.laload, 1) := dk_47 (dk_at dksX48_apart_2 4 rfl rfl)
theorem dX48_apart_51 : decode cX48_apart 51 = .ok (.invokevirtual 429, 3) := dk_182 1 173 (dk_at dksX48_apart_2 5 rfl rfl)
theorem dX48_apart_54 : decode cX48_apart 54 = .ok (.i2l, 1) := dk_133 (dk_at dksX48_apart_2 8 rfl rfl)
theorem dX48_apart_55 : decode cX48_apart 55 = .ok (.goto 4, 3) := dk_167 0 4 (dk_at dksX48_apart_2 9 rfl rfl)
theorem dX48_apart_58 : decode cX48_apart 58 = .ok (.lconst 0, 1) := dk_9 (dk_at dksX48_apart_2 12 rfl rfl)
theorem dX48_apart_59 : decode cX48_apart 59 = .ok (.lreturn, 1) := dk_173 (dk_at dksX48_apart_2 13 rfl rfl)
theorem dX48_apart_60 : decode cX48_apart 60 = .ok (.aload_n 0, 1) := dk_42 (dk_at dksX48_apart_2 14 rfl rfl)
theorem dX48_apart_61 : decode cX48_apart 61 = .ok (.ldc_w 805, 3) := dk_19 3 37 (dk_at dksX48_apart_2 15 rfl rfl)
theorem dX48_apart_64 : decode cX48_apart 64 = .ok (.ldc_w 292, 3) := dk_19 1 36 (dk_at dksX48_apart_2 18 rfl rfl)
theorem dX48_apart_67 : decode cX48_apart 67 = .ok (.invokevirtual 263, 3) := dk_182 1 7 (dk_at dksX48_apart_2 21 rfl rfl)
theorem dX48_apart_70 : decode cX48_apart 70 = .ok (.ifCond .eq 39, 3) := dk_153 0 39 (dk_at dksX48_apart_3 0 rfl rfl)
theorem dX48_apart_73 : decode cX48_apart 73 = .ok (.aload_n 0, 1) := dk_42 (dk_at dksX48_apart_3 3 rfl rfl)
theorem dX48_apart_74 : decode cX48_apart 74 = .ok (.getfield 167, 3) := dk_180 0 167 (dk_at dksX48_apart_3 4 rfl rfl)
theorem dX48_apart_77 : decode cX48_apart 77 = .ok (.ifCond .ge 30, 3) := dk_156 0 30 (dk_at dksX48_apart_3 7 rfl rfl)
theorem dX48_apart_80 : decode cX48_apart 80 = .ok (.aload_n 0, 1) := dk_42 (dk_at dksX48_apart_3 10 rfl rfl)
theorem dX48_apart_81 : decode cX48_apart 81 = .ok (.getfield 56, 3) := dk_180 0 56 (dk_at dksX48_apart_3 11 rfl rfl)
theorem dX48_apart_84 : decode cX48_apart 84 = .ok (.aload_n 0, 1) := dk_42 (dk_at dksX48_apart_3 14 rfl rfl)
theorem dX48_apart_85 : decode cX48_apart 85 = .ok (.getfield 99, 3) := dk_180 0 99 (dk_at dksX48_apart_3 15 rfl rfl)
theorem dX48_apart_88 : decode cX48_apart 88 = .ok (.iconst 0, 1) := dk_3 (dk_at dksX48_apart_3 18 rfl rfl)
theorem dX48_apart_89 : decode cX48_apart 89 = .ok (.laload, 1) := dk_47 (dk_at dksX48_apart_3 19 rfl rfl)
theorem dX48_apart_90 : decode cX48_apart 90 = .ok (.l2i, 1) := dk_136 (dk_at dksX48_apart_3 20 rfl rfl)
theorem dX48_apart_91 : decode cX48_apart 91 = .ok (.aload_n 0, 1) := dk_42 (dk_at dksX48_apart_3 21 rfl rfl)
theorem dX48_apart_92 : decode cX48_apart 92 = .ok (.getfield 99, 3) := dk_180 0 99 (dk_at dksX48_apart_4 0 rfl rfl)
theorem dX48_apart_95 : decode cX48_apart 95 = .ok (.iconst 1, 1) := dk_4 (dk_at dksX48_apart_4 3 rfl rfl)
theorem dX48_apart_96 : decode cX48_apart 96 = .ok (.laload, 1) := dk_47 (dk_at dksX48_apart_4 4 rfl rfl)
theorem dX48_apart_97 : decode cX48_apart 97 = .ok (.l2i, 1) := dk_136 (dk_at dksX48_apart_4 5 rfl rfl)
theorem dX48_apart_98 : decode cX48_apart 98 = .ok (.invokevirtual 436, 3) := dk_182 1 180 (dk_at dksX48_apart_4 6 rfl rfl)
theorem dX48_apart_101 : decode cX48_apart 101 = .ok (.invokestatic 328, 3) := dk_184 1 72 (dk_at dksX48_apart_4 9 rfl rfl)
theorem dX48_apart_104 : decode cX48_apart 104 = .ok (.goto 4, 3) := dk_167 0 4 (dk_at dksX48_apart_4 12 rfl rfl)
theorem dX48_apart_107 : decode cX48_apart 107 = .ok (.lconst 0, 1) := dk_9 (dk_at dksX48_apart_4 15 rfl rfl)
theorem dX48_apart_108 : decode cX48_apart 108 = .ok (.lreturn, 1) := dk_173 (dk_at dksX48_apart_4 16 rfl rfl)
theorem dX48_apart_109 : decode cX48_apart 109 = .ok (.aload_n 0, 1) := dk_42 (dk_at dksX48_apart_4 17 rfl rfl)
theorem dX48_apart_110 : decode cX48_apart 110 = .ok (.ldc_w 566, 3) := dk_19 2 54 (dk_at dksX48_apart_4 18 rfl rfl)
theorem dX48_apart_113 : decode cX48_apart 113 = .ok (.ldc_w 451, 3) := dk_19 1 195 (dk_at dksX48_apart_4 21 rfl rfl)
theorem dX48_apart_116 : decode cX48_apart 116 = .ok (.invokevirtual 263, 3) := dk_182 1 7 (dk_at dksX48_apart_5 0 rfl rfl)
theorem dX48_apart_119 : decode cX48_apart 119 = .ok (.ifCond .eq 45, 3) := dk_153 0 45 (dk_at dksX48_apart_5 3 rfl rfl)
theorem dX48_apart_122 : decode cX48_apart 122 = .ok (.aload_n 0, 1) := dk_42 (dk_at dksX48_apart_5 6 rfl rfl)
theorem dX48_apart_123 : decode cX48_apart 123 = .ok (.getfield 167, 3) := dk_180 0 167 (dk_at dksX48_apart_5 7 rfl rfl)
theorem dX48_apart_126 : decode cX48_apart 126 = .ok (.ifCond .ge 36, 3) := dk_156 0 36 (dk_at dksX48_apart_5 10 rfl rfl)
theorem dX48_apart_129 : decode cX48_apart 129 = .ok (.aload_n 0, 1) := dk_42 (dk_at dksX48_apart_5 13 rfl rfl)
theorem dX48_apart_130 : decode cX48_apart 130 = .ok (.getfield 56, 3) := dk_180 0 56 (dk_at dksX48_apart_5 14 rfl rfl)
theorem dX48_apart_133 : decode cX48_apart 133 = .ok (.aload_n 0, 1) := dk_42 (dk_at dksX48_apart_5 17 rfl rfl)
theorem dX48_apart_134 : decode cX48_apart 134 = .ok (.getfield 99, 3) := dk_180 0 99 (dk_at dksX48_apart_5 18 rfl rfl)
theorem dX48_apart_137 : decode cX48_apart 137 = .ok (.iconst 0, 1) := dk_3 (dk_at dksX48_apart_5 21 rfl rfl)
theorem dX48_apart_138 : decode cX48_apart 138 = .ok (.laload, 1) := dk_47 (dk_at dksX48_apart_5 22 rfl rfl)
theorem dX48_apart_139 : decode cX48_apart 139 = .ok (.l2i, 1) := dk_136 (dk_at dksX48_apart_5 23 rfl rfl)
theorem dX48_apart_140 : decode cX48_apart 140 = .ok (.aload_n 0, 1) := dk_42 (dk_at dksX48_apart_6 0 rfl rfl)
theorem dX48_apart_141 : decode cX48_apart 141 = .ok (.getfield 99, 3) := dk_180 0 99 (dk_at dksX48_apart_6 1 rfl rfl)
theorem dX48_apart_144 : decode cX48_apart 144 = .ok (.iconst 1, 1) := dk_4 (dk_at dksX48_apart_6 4 rfl rfl)
theorem dX48_apart_145 : decode cX48_apart 145 = .ok (.laload, 1) := dk_47 (dk_at dksX48_apart_6 5 rfl rfl)
theorem dX48_apart_146 : decode cX48_apart 146 = .ok (.l2i, 1) := dk_136 (dk_at dksX48_apart_6 6 rfl rfl)
theorem dX48_apart_147 : decode cX48_apart 147 = .ok (.aload_n 0, 1) := dk_42 (dk_at dksX48_apart_6 7 rfl rfl)
theorem dX48_apart_148 : decode cX48_apart 148 = .ok (.getfield 99, 3) := dk_180 0 99 (dk_at dksX48_apart_6 8 rfl rfl)
theorem dX48_apart_151 : decode cX48_apart 151 = .ok (.iconst 2, 1) := dk_5 (dk_at dksX48_apart_6 11 rfl rfl)
theorem dX48_apart_152 : decode cX48_apart 152 = .ok (.laload, 1) := dk_47 (dk_at dksX48_apart_6 12 rfl rfl)
theorem dX48_apart_153 : decode cX48_apart 153 = .ok (.invokevirtual 849, 3) := dk_182 3 81 (dk_at dksX48_apart_6 13 rfl rfl)
theorem dX48_apart_156 : decode cX48_apart 156 = .ok (.invokestatic 328, 3) := dk_184 1 72 (dk_at dksX48_apart_6 16 rfl rfl)
theorem dX48_apart_159 : decode cX48_apart 159 = .ok (.goto 4, 3) := dk_167 0 4 (dk_at dksX48_apart_6 19 rfl rfl)
theorem dX48_apart_162 : decode cX48_apart 162 = .ok (.lconst 0, 1) := dk_9 (dk_at dksX48_apart_6 22 rfl rfl)
theorem dX48_apart_163 : decode cX48_apart 163 = .ok (.lreturn, 1) := dk_173 (dk_at dksX48_apart_6 23 rfl rfl)
theorem dX48_apart_164 : decode cX48_apart 164 = .ok (.aload_n 0, 1) := dk_42 (dk_at dksX48_apart_7 0 rfl rfl)
theorem dX48_apart_165 : decode cX48_apart 165 = .ok (.ldc_w 851, 3) := dk_19 3 83 (dk_at dksX48_apart_7 1 rfl rfl)
theorem dX48_apart_168 : decode cX48_apart 168 = .ok (.ldc_w 451, 3) := dk_19 1 195 (dk_at dksX48_apart_7 4 rfl rfl)
theorem dX48_apart_171 : decode cX48_apart 171 = .ok (.invokevirtual 263, 3) := dk_182 1 7 (dk_at dksX48_apart_7 7 rfl rfl)
theorem dX48_apart_174 : decode cX48_apart 174 = .ok (.ifCond .eq 45, 3) := dk_153 0 45 (dk_at dksX48_apart_7 10 rfl rfl)
theorem dX48_apart_177 : decode cX48_apart 177 = .ok (.aload_n 0, 1) := dk_42 (dk_at dksX48_apart_7 13 rfl rfl)
theorem dX48_apart_178 : decode cX48_apart 178 = .ok (.getfield 167, 3) := dk_180 0 167 (dk_at dksX48_apart_7 14 rfl rfl)
theorem dX48_apart_181 : decode cX48_apart 181 = .ok (.ifCond .ge 36, 3) := dk_156 0 36 (dk_at dksX48_apart_7 17 rfl rfl)
theorem dX48_apart_184 : decode cX48_apart 184 = .ok (.aload_n 0, 1) := dk_42 (dk_at dksX48_apart_7 20 rfl rfl)
theorem dX48_apart_185 : decode cX48_apart 185 = .ok (.getfield 56, 3) := dk_180 0 56 (dk_at dksX48_apart_7 21 rfl rfl)
theorem dX48_apart_188 : decode cX48_apart 188 = .ok (.aload_n 0, 1) := dk_42 (dk_at dksX48_apart_8 0 rfl rfl)
theorem dX48_apart_189 : decode cX48_apart 189 = .ok (.getfield 99, 3) := dk_180 0 99 (dk_at dksX48_apart_8 1 rfl rfl)
theorem dX48_apart_192 : decode cX48_apart 192 = .ok (.iconst 0, 1) := dk_3 (dk_at dksX48_apart_8 4 rfl rfl)
theorem dX48_apart_193 : decode cX48_apart 193 = .ok (.laload, 1) := dk_47 (dk_at dksX48_apart_8 5 rfl rfl)
theorem dX48_apart_194 : decode cX48_apart 194 = .ok (.l2i, 1) := dk_136 (dk_at dksX48_apart_8 6 rfl rfl)
theorem dX48_apart_195 : decode cX48_apart 195 = .ok (.aload_n 0, 1) := dk_42 (dk_at dksX48_apart_8 7 rfl rfl)
theorem dX48_apart_196 : decode cX48_apart 196 = .ok (.getfield 99, 3) := dk_180 0 99 (dk_at dksX48_apart_8 8 rfl rfl)
theorem dX48_apart_199 : decode cX48_apart 199 = .ok (.iconst 1, 1) := dk_4 (dk_at dksX48_apart_8 11 rfl rfl)
theorem dX48_apart_200 : decode cX48_apart 200 = .ok (.laload, 1) := dk_47 (dk_at dksX48_apart_8 12 rfl rfl)
theorem dX48_apart_201 : decode cX48_apart 201 = .ok (.l2i, 1) := dk_136 (dk_at dksX48_apart_8 13 rfl rfl)
theorem dX48_apart_202 : decode cX48_apart 202 = .ok (.aload_n 0, 1) := dk_42 (dk_at dksX48_apart_8 14 rfl rfl)
theorem dX48_apart_203 : decode cX48_apart 203 = .ok (.getfield 99, 3) := dk_180 0 99 (dk_at dksX48_apart_8 15 rfl rfl)
theorem dX48_apart_206 : decode cX48_apart 206 = .ok (.iconst 2, 1) := dk_5 (dk_at dksX48_apart_8 18 rfl rfl)
theorem dX48_apart_207 : decode cX48_apart 207 = .ok (.laload, 1) := dk_47 (dk_at dksX48_apart_8 19 rfl rfl)
theorem dX48_apart_208 : decode cX48_apart 208 = .ok (.invokevirtual 853, 3) := dk_182 3 85 (dk_at dksX48_apart_8 20 rfl rfl)
theorem dX48_apart_211 : decode cX48_apart 211 = .ok (.invokestatic 328, 3) := dk_184 1 72 (dk_at dksX48_apart_9 0 rfl rfl)
theorem dX48_apart_214 : decode cX48_apart 214 = .ok (.goto 4, 3) := dk_167 0 4 (dk_at dksX48_apart_9 3 rfl rfl)
theorem dX48_apart_217 : decode cX48_apart 217 = .ok (.lconst 0, 1) := dk_9 (dk_at dksX48_apart_9 6 rfl rfl)
theorem dX48_apart_218 : decode cX48_apart 218 = .ok (.lreturn, 1) := dk_173 (dk_at dksX48_apart_9 7 rfl rfl)
theorem dX48_apart_219 : decode cX48_apart 219 = .ok (.aload_n 0, 1) := dk_42 (dk_at dksX48_apart_9 8 rfl rfl)
theorem dX48_apart_220 : decode cX48_apart 220 = .ok (.ldc_w 855, 3) := dk_19 3 87 (dk_at dksX48_apart_9 9 rfl rfl)
theorem dX48_apart_223 : decode cX48_apart 223 = .ok (.ldc_w 284, 3) := dk_19 1 28 (dk_at dksX48_apart_9 12 rfl rfl)
theorem dX48_apart_226 : decode cX48_apart 226 = .ok (.invokevirtual 263, 3) := dk_182 1 7 (dk_at dksX48_apart_9 15 rfl rfl)
theorem dX48_apart_229 : decode cX48_apart 229 = .ok (.ifCond .eq 38, 3) := dk_153 0 38 (dk_at dksX48_apart_9 18 rfl rfl)
theorem dX48_apart_232 : decode cX48_apart 232 = .ok (.aload_n 0, 1) := dk_42 (dk_at dksX48_apart_9 21 rfl rfl)
theorem dX48_apart_233 : decode cX48_apart 233 = .ok (.getfield 167, 3) := dk_180 0 167 (dk_at dksX48_apart_10 0 rfl rfl)
theorem dX48_apart_236 : decode cX48_apart 236 = .ok (.ifCond .ge 29, 3) := dk_156 0 29 (dk_at dksX48_apart_10 3 rfl rfl)
theorem dX48_apart_239 : decode cX48_apart 239 = .ok (.aload_n 0, 1) := dk_42 (dk_at dksX48_apart_10 6 rfl rfl)
theorem dX48_apart_240 : decode cX48_apart 240 = .ok (.getfield 56, 3) := dk_180 0 56 (dk_at dksX48_apart_10 7 rfl rfl)
theorem dX48_apart_243 : decode cX48_apart 243 = .ok (.aload_n 0, 1) := dk_42 (dk_at dksX48_apart_10 10 rfl rfl)
theorem dX48_apart_244 : decode cX48_apart 244 = .ok (.getfield 99, 3) := dk_180 0 99 (dk_at dksX48_apart_10 11 rfl rfl)
theorem dX48_apart_247 : decode cX48_apart 247 = .ok (.iconst 0, 1) := dk_3 (dk_at dksX48_apart_10 14 rfl rfl)
theorem dX48_apart_248 : decode cX48_apart 248 = .ok (.laload, 1) := dk_47 (dk_at dksX48_apart_10 15 rfl rfl)
theorem dX48_apart_249 : decode cX48_apart 249 = .ok (.l2i, 1) := dk_136 (dk_at dksX48_apart_10 16 rfl rfl)
theorem dX48_apart_250 : decode cX48_apart 250 = .ok (.aload_n 0, 1) := dk_42 (dk_at dksX48_apart_10 17 rfl rfl)
theorem dX48_apart_251 : decode cX48_apart 251 = .ok (.getfield 99, 3) := dk_180 0 99 (dk_at dksX48_apart_10 18 rfl rfl)
theorem dX48_apart_254 : decode cX48_apart 254 = .ok (.iconst 1, 1) := dk_4 (dk_at dksX48_apart_10 21 rfl rfl)
theorem dX48_apart_255 : decode cX48_apart 255 = .ok (.laload, 1) := dk_47 (dk_at dksX48_apart_10 22 rfl rfl)
theorem dX48_apart_256 : decode cX48_apart 256 = .ok (.invokevirtual 857, 3) := dk_182 3 89 (dk_at dksX48_apart_11 0 rfl rfl)
theorem dX48_apart_259 : decode cX48_apart 259 = .ok (.invokestatic 328, 3) := dk_184 1 72 (dk_at dksX48_apart_11 3 rfl rfl)
theorem dX48_apart_262 : decode cX48_apart 262 = .ok (.goto 4, 3) := dk_167 0 4 (dk_at dksX48_apart_11 6 rfl rfl)
theorem dX48_apart_265 : decode cX48_apart 265 = .ok (.lconst 0, 1) := dk_9 (dk_at dksX48_apart_11 9 rfl rfl)
theorem dX48_apart_266 : decode cX48_apart 266 = .ok (.lreturn, 1) := dk_173 (dk_at dksX48_apart_11 10 rfl rfl)
theorem dX48_apart_267 : decode cX48_apart 267 = .ok (.aload_n 0, 1) := dk_42 (dk_at dksX48_apart_11 11 rfl rfl)
theorem dX48_apart_268 : decode cX48_apart 268 = .ok (.ldc_w 859, 3) := dk_19 3 91 (dk_at dksX48_apart_11 12 rfl rfl)
theorem dX48_apart_271 : decode cX48_apart 271 = .ok (.ldc_w 861, 3) := dk_19 3 93 (dk_at dksX48_apart_11 15 rfl rfl)
theorem dX48_apart_274 : decode cX48_apart 274 = .ok (.invokevirtual 263, 3) := dk_182 1 7 (dk_at dksX48_apart_11 18 rfl rfl)
theorem dX48_apart_277 : decode cX48_apart 277 = .ok (.ifCond .eq 37, 3) := dk_153 0 37 (dk_at dksX48_apart_11 21 rfl rfl)
theorem dX48_apart_280 : decode cX48_apart 280 = .ok (.aload_n 0, 1) := dk_42 (dk_at dksX48_apart_12 0 rfl rfl)
theorem dX48_apart_281 : decode cX48_apart 281 = .ok (.getfield 167, 3) := dk_180 0 167 (dk_at dksX48_apart_12 1 rfl rfl)
theorem dX48_apart_284 : decode cX48_apart 284 = .ok (.ifCond .ge 28, 3) := dk_156 0 28 (dk_at dksX48_apart_12 4 rfl rfl)
theorem dX48_apart_287 : decode cX48_apart 287 = .ok (.aload_n 0, 1) := dk_42 (dk_at dksX48_apart_12 7 rfl rfl)
theorem dX48_apart_288 : decode cX48_apart 288 = .ok (.getfield 56, 3) := dk_180 0 56 (dk_at dksX48_apart_12 8 rfl rfl)
theorem dX48_apart_291 : decode cX48_apart 291 = .ok (.aload_n 0, 1) := dk_42 (dk_at dksX48_apart_12 11 rfl rfl)
theorem dX48_apart_292 : decode cX48_apart 292 = .ok (.getfield 99, 3) := dk_180 0 99 (dk_at dksX48_apart_12 12 rfl rfl)
theorem dX48_apart_295 : decode cX48_apart 295 = .ok (.iconst 0, 1) := dk_3 (dk_at dksX48_apart_12 15 rfl rfl)
theorem dX48_apart_296 : decode cX48_apart 296 = .ok (.laload, 1) := dk_47 (dk_at dksX48_apart_12 16 rfl rfl)
theorem dX48_apart_297 : decode cX48_apart 297 = .ok (.aload_n 0, 1) := dk_42 (dk_at dksX48_apart_12 17 rfl rfl)
theorem dX48_apart_298 : decode cX48_apart 298 = .ok (.getfield 99, 3) := dk_180 0 99 (dk_at dksX48_apart_12 18 rfl rfl)
theorem dX48_apart_301 : decode cX48_apart 301 = .ok (.iconst 1, 1) := dk_4 (dk_at dksX48_apart_12 21 rfl rfl)
theorem dX48_apart_302 : decode cX48_apart 302 = .ok (.laload, 1) := dk_47 (dk_at dksX48_apart_12 22 rfl rfl)
theorem dX48_apart_303 : decode cX48_apart 303 = .ok (.invokevirtual 863, 3) := dk_182 3 95 (dk_at dksX48_apart_13 0 rfl rfl)
theorem dX48_apart_306 : decode cX48_apart 306 = .ok (.invokestatic 328, 3) := dk_184 1 72 (dk_at dksX48_apart_13 3 rfl rfl)
theorem dX48_apart_309 : decode cX48_apart 309 = .ok (.goto 4, 3) := dk_167 0 4 (dk_at dksX48_apart_13 6 rfl rfl)
theorem dX48_apart_312 : decode cX48_apart 312 = .ok (.lconst 0, 1) := dk_9 (dk_at dksX48_apart_13 9 rfl rfl)
theorem dX48_apart_313 : decode cX48_apart 313 = .ok (.lreturn, 1) := dk_173 (dk_at dksX48_apart_13 10 rfl rfl)
theorem dX48_apart_314 : decode cX48_apart 314 = .ok (.aload_n 0, 1) := dk_42 (dk_at dksX48_apart_13 11 rfl rfl)
theorem dX48_apart_315 : decode cX48_apart 315 = .ok (.ldc_w 866, 3) := dk_19 3 98 (dk_at dksX48_apart_13 12 rfl rfl)
theorem dX48_apart_318 : decode cX48_apart 318 = .ok (.ldc_w 278, 3) := dk_19 1 22 (dk_at dksX48_apart_13 15 rfl rfl)
theorem dX48_apart_321 : decode cX48_apart 321 = .ok (.invokevirtual 263, 3) := dk_182 1 7 (dk_at dksX48_apart_13 18 rfl rfl)
theorem dX48_apart_324 : decode cX48_apart 324 = .ok (.ifCond .eq 32, 3) := dk_153 0 32 (dk_at dksX48_apart_13 21 rfl rfl)
theorem dX48_apart_327 : decode cX48_apart 327 = .ok (.aload_n 0, 1) := dk_42 (dk_at dksX48_apart_14 0 rfl rfl)
theorem dX48_apart_328 : decode cX48_apart 328 = .ok (.getfield 167, 3) := dk_180 0 167 (dk_at dksX48_apart_14 1 rfl rfl)
theorem dX48_apart_331 : decode cX48_apart 331 = .ok (.ifCond .ge 23, 3) := dk_156 0 23 (dk_at dksX48_apart_14 4 rfl rfl)
theorem dX48_apart_334 : decode cX48_apart 334 = .ok (.aload_n 0, 1) := dk_42 (dk_at dksX48_apart_14 7 rfl rfl)
theorem dX48_apart_335 : decode cX48_apart 335 = .ok (.getfield 56, 3) := dk_180 0 56 (dk_at dksX48_apart_14 8 rfl rfl)
theorem dX48_apart_338 : decode cX48_apart 338 = .ok (.aload_n 0, 1) := dk_42 (dk_at dksX48_apart_14 11 rfl rfl)
theorem dX48_apart_339 : decode cX48_apart 339 = .ok (.getfield 99, 3) := dk_180 0 99 (dk_at dksX48_apart_14 12 rfl rfl)
theorem dX48_apart_342 : decode cX48_apart 342 = .ok (.iconst 0, 1) := dk_3 (dk_at dksX48_apart_14 15 rfl rfl)
theorem dX48_apart_343 : decode cX48_apart 343 = .ok (.laload, 1) := dk_47 (dk_at dksX48_apart_14 16 rfl rfl)
theorem dX48_apart_344 : decode cX48_apart 344 = .ok (.l2i, 1) := dk_136 (dk_at dksX48_apart_14 17 rfl rfl)
theorem dX48_apart_345 : decode cX48_apart 345 = .ok (.invokevirtual 868, 3) := dk_182 3 100 (dk_at dksX48_apart_14 18 rfl rfl)
theorem dX48_apart_348 : decode cX48_apart 348 = .ok (.invokestatic 328, 3) := dk_184 1 72 (dk_at dksX48_apart_14 21 rfl rfl)
theorem dX48_apart_351 : decode cX48_apart 351 = .ok (.goto 4, 3) := dk_167 0 4 (dk_at dksX48_apart_15 0 rfl rfl)
theorem dX48_apart_354 : decode cX48_apart 354 = .ok (.lconst 0, 1) := dk_9 (dk_at dksX48_apart_15 3 rfl rfl)
theorem dX48_apart_355 : decode cX48_apart 355 = .ok (.lreturn, 1) := dk_173 (dk_at dksX48_apart_15 4 rfl rfl)
theorem dX48_apart_356 : decode cX48_apart 356 = .ok (.aload_n 0, 1) := dk_42 (dk_at dksX48_apart_15 5 rfl rfl)
theorem dX48_apart_357 : decode cX48_apart 357 = .ok (.ldc_w 870, 3) := dk_19 3 102 (dk_at dksX48_apart_15 6 rfl rfl)
theorem dX48_apart_360 : decode cX48_apart 360 = .ok (.ldc_w 547, 3) := dk_19 2 35 (dk_at dksX48_apart_15 9 rfl rfl)
theorem dX48_apart_363 : decode cX48_apart 363 = .ok (.invokevirtual 263, 3) := dk_182 1 7 (dk_at dksX48_apart_15 12 rfl rfl)
theorem dX48_apart_366 : decode cX48_apart 366 = .ok (.ifCond .eq 44, 3) := dk_153 0 44 (dk_at dksX48_apart_15 15 rfl rfl)
theorem dX48_apart_369 : decode cX48_apart 369 = .ok (.aload_n 0, 1) := dk_42 (dk_at dksX48_apart_15 18 rfl rfl)
theorem dX48_apart_370 : decode cX48_apart 370 = .ok (.getfield 167, 3) := dk_180 0 167 (dk_at dksX48_apart_15 19 rfl rfl)
theorem dX48_apart_373 : decode cX48_apart 373 = .ok (.ifCond .ge 35, 3) := dk_156 0 35 (dk_at dksX48_apart_16 0 rfl rfl)
theorem dX48_apart_376 : decode cX48_apart 376 = .ok (.aload_n 0, 1) := dk_42 (dk_at dksX48_apart_16 3 rfl rfl)
theorem dX48_apart_377 : decode cX48_apart 377 = .ok (.getfield 56, 3) := dk_180 0 56 (dk_at dksX48_apart_16 4 rfl rfl)
theorem dX48_apart_380 : decode cX48_apart 380 = .ok (.aload_n 0, 1) := dk_42 (dk_at dksX48_apart_16 7 rfl rfl)
theorem dX48_apart_381 : decode cX48_apart 381 = .ok (.getfield 99, 3) := dk_180 0 99 (dk_at dksX48_apart_16 8 rfl rfl)
theorem dX48_apart_384 : decode cX48_apart 384 = .ok (.iconst 0, 1) := dk_3 (dk_at dksX48_apart_16 11 rfl rfl)
theorem dX48_apart_385 : decode cX48_apart 385 = .ok (.laload, 1) := dk_47 (dk_at dksX48_apart_16 12 rfl rfl)
theorem dX48_apart_386 : decode cX48_apart 386 = .ok (.l2i, 1) := dk_136 (dk_at dksX48_apart_16 13 rfl rfl)
theorem dX48_apart_387 : decode cX48_apart 387 = .ok (.aload_n 0, 1) := dk_42 (dk_at dksX48_apart_16 14 rfl rfl)
theorem dX48_apart_388 : decode cX48_apart 388 = .ok (.getfield 99, 3) := dk_180 0 99 (dk_at dksX48_apart_16 15 rfl rfl)
theorem dX48_apart_391 : decode cX48_apart 391 = .ok (.iconst 1, 1) := dk_4 (dk_at dksX48_apart_16 18 rfl rfl)
theorem dX48_apart_392 : decode cX48_apart 392 = .ok (.laload, 1) := dk_47 (dk_at dksX48_apart_16 19 rfl rfl)
theorem dX48_apart_393 : decode cX48_apart 393 = .ok (.aload_n 0, 1) := dk_42 (dk_at dksX48_apart_16 20 rfl rfl)
theorem dX48_apart_394 : decode cX48_apart 394 = .ok (.getfield 99, 3) := dk_180 0 99 (dk_at dksX48_apart_16 21 rfl rfl)
theorem dX48_apart_397 : decode cX48_apart 397 = .ok (.iconst 2, 1) := dk_5 (dk_at dksX48_apart_17 0 rfl rfl)
theorem dX48_apart_398 : decode cX48_apart 398 = .ok (.laload, 1) := dk_47 (dk_at dksX48_apart_17 1 rfl rfl)
theorem dX48_apart_399 : decode cX48_apart 399 = .ok (.invokevirtual 872, 3) := dk_182 3 104 (dk_at dksX48_apart_17 2 rfl rfl)
theorem dX48_apart_402 : decode cX48_apart 402 = .ok (.invokestatic 328, 3) := dk_184 1 72 (dk_at dksX48_apart_17 5 rfl rfl)
theorem dX48_apart_405 : decode cX48_apart 405 = .ok (.goto 4, 3) := dk_167 0 4 (dk_at dksX48_apart_17 8 rfl rfl)
theorem dX48_apart_408 : decode cX48_apart 408 = .ok (.lconst 0, 1) := dk_9 (dk_at dksX48_apart_17 11 rfl rfl)
theorem dX48_apart_409 : decode cX48_apart 409 = .ok (.lreturn, 1) := dk_173 (dk_at dksX48_apart_17 12 rfl rfl)
theorem dX48_apart_410 : decode cX48_apart 410 = .ok (.aload_n 0, 1) := dk_42 (dk_at dksX48_apart_17 13 rfl rfl)
theorem dX48_apart_411 : decode cX48_apart 411 = .ok (.ldc_w 874, 3) := dk_19 3 106 (dk_at dksX48_apart_17 14 rfl rfl)
theorem dX48_apart_414 : decode cX48_apart 414 = .ok (.ldc_w 272, 3) := dk_19 1 16 (dk_at dksX48_apart_17 17 rfl rfl)
theorem dX48_apart_417 : decode cX48_apart 417 = .ok (.invokevirtual 263, 3) := dk_182 1 7 (dk_at dksX48_apart_17 20 rfl rfl)
theorem dX48_apart_420 : decode cX48_apart 420 = .ok (.ifCond .eq 22, 3) := dk_153 0 22 (dk_at dksX48_apart_18 0 rfl rfl)
theorem dX48_apart_423 : decode cX48_apart 423 = .ok (.aload_n 0, 1) := dk_42 (dk_at dksX48_apart_18 3 rfl rfl)
theorem dX48_apart_424 : decode cX48_apart 424 = .ok (.getfield 167, 3) := dk_180 0 167 (dk_at dksX48_apart_18 4 rfl rfl)
theorem dX48_apart_427 : decode cX48_apart 427 = .ok (.ifCond .ge 13, 3) := dk_156 0 13 (dk_at dksX48_apart_18 7 rfl rfl)
theorem dX48_apart_430 : decode cX48_apart 430 = .ok (.aload_n 0, 1) := dk_42 (dk_at dksX48_apart_18 10 rfl rfl)
theorem dX48_apart_431 : decode cX48_apart 431 = .ok (.getfield 56, 3) := dk_180 0 56 (dk_at dksX48_apart_18 11 rfl rfl)
theorem dX48_apart_434 : decode cX48_apart 434 = .ok (.invokevirtual 876, 3) := dk_182 3 108 (dk_at dksX48_apart_18 14 rfl rfl)
theorem dX48_apart_437 : decode cX48_apart 437 = .ok (.goto 4, 3) := dk_167 0 4 (dk_at dksX48_apart_18 17 rfl rfl)
theorem dX48_apart_440 : decode cX48_apart 440 = .ok (.lconst 0, 1) := dk_9 (dk_at dksX48_apart_18 20 rfl rfl)
theorem dX48_apart_441 : decode cX48_apart 441 = .ok (.lreturn, 1) := dk_173 (dk_at dksX48_apart_18 21 rfl rfl)
theorem dX48_apart_442 : decode cX48_apart 442 = .ok (.aload_n 0, 1) := dk_42 (dk_at dksX48_apart_18 22 rfl rfl)
theorem dX48_apart_443 : decode cX48_apart 443 = .ok (.ldc_w 604, 3) := dk_19 2 92 (dk_at dksX48_apart_19 0 rfl rfl)
theorem dX48_apart_446 : decode cX48_apart 446 = .ok (.ldc_w 583, 3) := dk_19 2 71 (dk_at dksX48_apart_19 3 rfl rfl)
theorem dX48_apart_449 : decode cX48_apart 449 = .ok (.invokevirtual 263, 3) := dk_182 1 7 (dk_at dksX48_apart_19 6 rfl rfl)
theorem dX48_apart_452 : decode cX48_apart 452 = .ok (.ifCond .eq 29, 3) := dk_153 0 29 (dk_at dksX48_apart_19 9 rfl rfl)
theorem dX48_apart_455 : decode cX48_apart 455 = .ok (.aload_n 0, 1) := dk_42 (dk_at dksX48_apart_19 12 rfl rfl)
theorem dX48_apart_456 : decode cX48_apart 456 = .ok (.getfield 167, 3) := dk_180 0 167 (dk_at dksX48_apart_19 13 rfl rfl)
theorem dX48_apart_459 : decode cX48_apart 459 = .ok (.ifCond .ge 20, 3) := dk_156 0 20 (dk_at dksX48_apart_19 16 rfl rfl)
theorem dX48_apart_462 : decode cX48_apart 462 = .ok (.aload_n 0, 1) := dk_42 (dk_at dksX48_apart_19 19 rfl rfl)
theorem dX48_apart_463 : decode cX48_apart 463 = .ok (.getfield 56, 3) := dk_180 0 56 (dk_at dksX48_apart_19 20 rfl rfl)
theorem dX48_apart_466 : decode cX48_apart 466 = .ok (.aload_n 0, 1) := dk_42 (dk_at dksX48_apart_19 23 rfl rfl)
theorem dX48_apart_467 : decode cX48_apart 467 = .ok (.getfield 99, 3) := dk_180 0 99 (dk_at dksX48_apart_20 0 rfl rfl)
theorem dX48_apart_470 : decode cX48_apart 470 = .ok (.iconst 0, 1) := dk_3 (dk_at dksX48_apart_20 3 rfl rfl)
theorem dX48_apart_471 : decode cX48_apart 471 = .ok (.laload, 1) := dk_47 (dk_at dksX48_apart_20 4 rfl rfl)
theorem dX48_apart_472 : decode cX48_apart 472 = .ok (.invokevirtual 878, 3) := dk_182 3 110 (dk_at dksX48_apart_20 5 rfl rfl)
theorem dX48_apart_475 : decode cX48_apart 475 = .ok (.i2l, 1) := dk_133 (dk_at dksX48_apart_20 8 rfl rfl)
theorem dX48_apart_476 : decode cX48_apart 476 = .ok (.goto 4, 3) := dk_167 0 4 (dk_at dksX48_apart_20 9 rfl rfl)
theorem dX48_apart_479 : decode cX48_apart 479 = .ok (.lconst 0, 1) := dk_9 (dk_at dksX48_apart_20 12 rfl rfl)
theorem dX48_apart_480 : decode cX48_apart 480 = .ok (.lreturn, 1) := dk_173 (dk_at dksX48_apart_20 13 rfl rfl)
theorem dX48_apart_481 : decode cX48_apart 481 = .ok (.aload_n 0, 1) := dk_42 (dk_at dksX48_apart_20 14 rfl rfl)
theorem dX48_apart_482 : decode cX48_apart 482 = .ok (.ldc_w 750, 3) := dk_19 2 238 (dk_at dksX48_apart_20 15 rfl rfl)
theorem dX48_apart_485 : decode cX48_apart 485 = .ok (.ldc_w 278, 3) := dk_19 1 22 (dk_at dksX48_apart_20 18 rfl rfl)
theorem dX48_apart_488 : decode cX48_apart 488 = .ok (.invokevirtual 263, 3) := dk_182 1 7 (dk_at dksX48_apart_20 21 rfl rfl)
theorem dX48_apart_491 : decode cX48_apart 491 = .ok (.ifCond .eq 30, 3) := dk_153 0 30 (dk_at dksX48_apart_21 0 rfl rfl)
theorem dX48_apart_494 : decode cX48_apart 494 = .ok (.aload_n 0, 1) := dk_42 (dk_at dksX48_apart_21 3 rfl rfl)
theorem dX48_apart_495 : decode cX48_apart 495 = .ok (.getfield 167, 3) := dk_180 0 167 (dk_at dksX48_apart_21 4 rfl rfl)
theorem dX48_apart_498 : decode cX48_apart 498 = .ok (.ifCond .ge 21, 3) := dk_156 0 21 (dk_at dksX48_apart_21 7 rfl rfl)
theorem dX48_apart_501 : decode cX48_apart 501 = .ok (.aload_n 0, 1) := dk_42 (dk_at dksX48_apart_21 10 rfl rfl)
theorem dX48_apart_502 : decode cX48_apart 502 = .ok (.getfield 56, 3) := dk_180 0 56 (dk_at dksX48_apart_21 11 rfl rfl)
theorem dX48_apart_505 : decode cX48_apart 505 = .ok (.aload_n 0, 1) := dk_42 (dk_at dksX48_apart_21 14 rfl rfl)
theorem dX48_apart_506 : decode cX48_apart 506 = .ok (.getfield 99, 3) := dk_180 0 99 (dk_at dksX48_apart_21 15 rfl rfl)
theorem dX48_apart_509 : decode cX48_apart 509 = .ok (.iconst 0, 1) := dk_3 (dk_at dksX48_apart_21 18 rfl rfl)
theorem dX48_apart_510 : decode cX48_apart 510 = .ok (.laload, 1) := dk_47 (dk_at dksX48_apart_21 19 rfl rfl)
theorem dX48_apart_511 : decode cX48_apart 511 = .ok (.l2i, 1) := dk_136 (dk_at dksX48_apart_21 20 rfl rfl)
theorem dX48_apart_512 : decode cX48_apart 512 = .ok (.invokevirtual 879, 3) := dk_182 3 111 (dk_at dksX48_apart_21 21 rfl rfl)
theorem dX48_apart_515 : decode cX48_apart 515 = .ok (.i2l, 1) := dk_133 (dk_at dksX48_apart_22 0 rfl rfl)
theorem dX48_apart_516 : decode cX48_apart 516 = .ok (.goto 4, 3) := dk_167 0 4 (dk_at dksX48_apart_22 1 rfl rfl)
theorem dX48_apart_519 : decode cX48_apart 519 = .ok (.lconst 0, 1) := dk_9 (dk_at dksX48_apart_22 4 rfl rfl)
theorem dX48_apart_520 : decode cX48_apart 520 = .ok (.lreturn, 1) := dk_173 (dk_at dksX48_apart_22 5 rfl rfl)
theorem dX48_apart_521 : decode cX48_apart 521 = .ok (.aload_n 0, 1) := dk_42 (dk_at dksX48_apart_22 6 rfl rfl)
theorem dX48_apart_522 : decode cX48_apart 522 = .ok (.ldc_w 881, 3) := dk_19 3 113 (dk_at dksX48_apart_22 7 rfl rfl)
theorem dX48_apart_525 : decode cX48_apart 525 = .ok (.ldc_w 278, 3) := dk_19 1 22 (dk_at dksX48_apart_22 10 rfl rfl)
theorem dX48_apart_528 : decode cX48_apart 528 = .ok (.invokevirtual 263, 3) := dk_182 1 7 (dk_at dksX48_apart_22 13 rfl rfl)
theorem dX48_apart_531 : decode cX48_apart 531 = .ok (.ifCond .eq 30, 3) := dk_153 0 30 (dk_at dksX48_apart_22 16 rfl rfl)
theorem dX48_apart_534 : decode cX48_apart 534 = .ok (.aload_n 0, 1) := dk_42 (dk_at dksX48_apart_22 19 rfl rfl)
theorem dX48_apart_535 : decode cX48_apart 535 = .ok (.getfield 167, 3) := dk_180 0 167 (dk_at dksX48_apart_22 20 rfl rfl)
theorem dX48_apart_538 : decode cX48_apart 538 = .ok (.ifCond .ge 21, 3) := dk_156 0 21 (dk_at dksX48_apart_23 0 rfl rfl)
theorem dX48_apart_541 : decode cX48_apart 541 = .ok (.aload_n 0, 1) := dk_42 (dk_at dksX48_apart_23 3 rfl rfl)
theorem dX48_apart_542 : decode cX48_apart 542 = .ok (.getfield 56, 3) := dk_180 0 56 (dk_at dksX48_apart_23 4 rfl rfl)
theorem dX48_apart_545 : decode cX48_apart 545 = .ok (.aload_n 0, 1) := dk_42 (dk_at dksX48_apart_23 7 rfl rfl)
theorem dX48_apart_546 : decode cX48_apart 546 = .ok (.getfield 99, 3) := dk_180 0 99 (dk_at dksX48_apart_23 8 rfl rfl)
theorem dX48_apart_549 : decode cX48_apart 549 = .ok (.iconst 0, 1) := dk_3 (dk_at dksX48_apart_23 11 rfl rfl)
theorem dX48_apart_550 : decode cX48_apart 550 = .ok (.laload, 1) := dk_47 (dk_at dksX48_apart_23 12 rfl rfl)
theorem dX48_apart_551 : decode cX48_apart 551 = .ok (.l2i, 1) := dk_136 (dk_at dksX48_apart_23 13 rfl rfl)
theorem dX48_apart_552 : decode cX48_apart 552 = .ok (.invokevirtual 883, 3) := dk_182 3 115 (dk_at dksX48_apart_23 14 rfl rfl)
theorem dX48_apart_555 : decode cX48_apart 555 = .ok (.i2l, 1) := dk_133 (dk_at dksX48_apart_23 17 rfl rfl)
theorem dX48_apart_556 : decode cX48_apart 556 = .ok (.goto 4, 3) := dk_167 0 4 (dk_at dksX48_apart_23 18 rfl rfl)
theorem dX48_apart_559 : decode cX48_apart 559 = .ok (.lconst 0, 1) := dk_9 (dk_at dksX48_apart_23 21 rfl rfl)
theorem dX48_apart_560 : decode cX48_apart 560 = .ok (.lreturn, 1) := dk_173 (dk_at dksX48_apart_23 22 rfl rfl)
theorem dX48_apart_561 : decode cX48_apart 561 = .ok (.aload_n 0, 1) := dk_42 (dk_at dksX48_apart_23 23 rfl rfl)
theorem dX48_apart_562 : decode cX48_apart 562 = .ok (.ldc_w 885, 3) := dk_19 3 117 (dk_at dksX48_apart_24 0 rfl rfl)
theorem dX48_apart_565 : decode cX48_apart 565 = .ok (.ldc_w 278, 3) := dk_19 1 22 (dk_at dksX48_apart_24 3 rfl rfl)
theorem dX48_apart_568 : decode cX48_apart 568 = .ok (.invokevirtual 263, 3) := dk_182 1 7 (dk_at dksX48_apart_24 6 rfl rfl)
theorem dX48_apart_571 : decode cX48_apart 571 = .ok (.ifCond .eq 30, 3) := dk_153 0 30 (dk_at dksX48_apart_24 9 rfl rfl)
theorem dX48_apart_574 : decode cX48_apart 574 = .ok (.aload_n 0, 1) := dk_42 (dk_at dksX48_apart_24 12 rfl rfl)
theorem dX48_apart_575 : decode cX48_apart 575 = .ok (.getfield 167, 3) := dk_180 0 167 (dk_at dksX48_apart_24 13 rfl rfl)
theorem dX48_apart_578 : decode cX48_apart 578 = .ok (.ifCond .ge 21, 3) := dk_156 0 21 (dk_at dksX48_apart_24 16 rfl rfl)
theorem dX48_apart_581 : decode cX48_apart 581 = .ok (.aload_n 0, 1) := dk_42 (dk_at dksX48_apart_24 19 rfl rfl)
theorem dX48_apart_582 : decode cX48_apart 582 = .ok (.getfield 56, 3) := dk_180 0 56 (dk_at dksX48_apart_24 20 rfl rfl)
theorem dX48_apart_585 : decode cX48_apart 585 = .ok (.aload_n 0, 1) := dk_42 (dk_at dksX48_apart_24 23 rfl rfl)
theorem dX48_apart_586 : decode cX48_apart 586 = .ok (.getfield 99, 3) := dk_180 0 99 (dk_at dksX48_apart_25 0 rfl rfl)
theorem dX48_apart_589 : decode cX48_apart 589 = .ok (.iconst 0, 1) := dk_3 (dk_at dksX48_apart_25 3 rfl rfl)
theorem dX48_apart_590 : decode cX48_apart 590 = .ok (.laload, 1) := dk_47 (dk_at dksX48_apart_25 4 rfl rfl)
theorem dX48_apart_591 : decode cX48_apart 591 = .ok (.l2i, 1) := dk_136 (dk_at dksX48_apart_25 5 rfl rfl)
theorem dX48_apart_592 : decode cX48_apart 592 = .ok (.invokevirtual 887, 3) := dk_182 3 119 (dk_at dksX48_apart_25 6 rfl rfl)
theorem dX48_apart_595 : decode cX48_apart 595 = .ok (.i2l, 1) := dk_133 (dk_at dksX48_apart_25 9 rfl rfl)
theorem dX48_apart_596 : decode cX48_apart 596 = .ok (.goto 4, 3) := dk_167 0 4 (dk_at dksX48_apart_25 10 rfl rfl)
theorem dX48_apart_599 : decode cX48_apart 599 = .ok (.lconst 0, 1) := dk_9 (dk_at dksX48_apart_25 13 rfl rfl)
theorem dX48_apart_600 : decode cX48_apart 600 = .ok (.lreturn, 1) := dk_173 (dk_at dksX48_apart_25 14 rfl rfl)
theorem dX48_apart_601 : decode cX48_apart 601 = .ok (.aload_n 0, 1) := dk_42 (dk_at dksX48_apart_25 15 rfl rfl)
theorem dX48_apart_602 : decode cX48_apart 602 = .ok (.ldc_w 889, 3) := dk_19 3 121 (dk_at dksX48_apart_25 16 rfl rfl)
theorem dX48_apart_605 : decode cX48_apart 605 = .ok (.ldc_w 278, 3) := dk_19 1 22 (dk_at dksX48_apart_25 19 rfl rfl)
theorem dX48_apart_608 : decode cX48_apart 608 = .ok (.invokevirtual 263, 3) := dk_182 1 7 (dk_at dksX48_apart_26 0 rfl rfl)
theorem dX48_apart_611 : decode cX48_apart 611 = .ok (.ifCond .eq 29, 3) := dk_153 0 29 (dk_at dksX48_apart_26 3 rfl rfl)
theorem dX48_apart_614 : decode cX48_apart 614 = .ok (.aload_n 0, 1) := dk_42 (dk_at dksX48_apart_26 6 rfl rfl)
theorem dX48_apart_615 : decode cX48_apart 615 = .ok (.getfield 167, 3) := dk_180 0 167 (dk_at dksX48_apart_26 7 rfl rfl)
theorem dX48_apart_618 : decode cX48_apart 618 = .ok (.ifCond .ge 20, 3) := dk_156 0 20 (dk_at dksX48_apart_26 10 rfl rfl)
theorem dX48_apart_621 : decode cX48_apart 621 = .ok (.aload_n 0, 1) := dk_42 (dk_at dksX48_apart_26 13 rfl rfl)
theorem dX48_apart_622 : decode cX48_apart 622 = .ok (.getfield 56, 3) := dk_180 0 56 (dk_at dksX48_apart_26 14 rfl rfl)
theorem dX48_apart_625 : decode cX48_apart 625 = .ok (.aload_n 0, 1) := dk_42 (dk_at dksX48_apart_26 17 rfl rfl)
theorem dX48_apart_626 : decode cX48_apart 626 = .ok (.getfield 99, 3) := dk_180 0 99 (dk_at dksX48_apart_26 18 rfl rfl)
theorem dX48_apart_629 : decode cX48_apart 629 = .ok (.iconst 0, 1) := dk_3 (dk_at dksX48_apart_26 21 rfl rfl)
theorem dX48_apart_630 : decode cX48_apart 630 = .ok (.laload, 1) := dk_47 (dk_at dksX48_apart_26 22 rfl rfl)
theorem dX48_apart_631 : decode cX48_apart 631 = .ok (.l2i, 1) := dk_136 (dk_at dksX48_apart_26 23 rfl rfl)
theorem dX48_apart_632 : decode cX48_apart 632 = .ok (.invokevirtual 891, 3) := dk_182 3 123 (dk_at dksX48_apart_27 0 rfl rfl)
theorem dX48_apart_635 : decode cX48_apart 635 = .ok (.goto 4, 3) := dk_167 0 4 (dk_at dksX48_apart_27 3 rfl rfl)
theorem dX48_apart_638 : decode cX48_apart 638 = .ok (.lconst 0, 1) := dk_9 (dk_at dksX48_apart_27 6 rfl rfl)
theorem dX48_apart_639 : decode cX48_apart 639 = .ok (.lreturn, 1) := dk_173 (dk_at dksX48_apart_27 7 rfl rfl)
theorem dX48_apart_640 : decode cX48_apart 640 = .ok (.aload_n 0, 1) := dk_42 (dk_at dksX48_apart_27 8 rfl rfl)
theorem dX48_apart_641 : decode cX48_apart 641 = .ok (.ldc_w 893, 3) := dk_19 3 125 (dk_at dksX48_apart_27 9 rfl rfl)
theorem dX48_apart_644 : decode cX48_apart 644 = .ok (.ldc_w 272, 3) := dk_19 1 16 (dk_at dksX48_apart_27 12 rfl rfl)
theorem dX48_apart_647 : decode cX48_apart 647 = .ok (.invokevirtual 263, 3) := dk_182 1 7 (dk_at dksX48_apart_27 15 rfl rfl)
theorem dX48_apart_650 : decode cX48_apart 650 = .ok (.ifCond .eq 25, 3) := dk_153 0 25 (dk_at dksX48_apart_27 18 rfl rfl)
theorem dX48_apart_653 : decode cX48_apart 653 = .ok (.aload_n 0, 1) := dk_42 (dk_at dksX48_apart_27 21 rfl rfl)
theorem dX48_apart_654 : decode cX48_apart 654 = .ok (.getfield 167, 3) := dk_180 0 167 (dk_at dksX48_apart_28 0 rfl rfl)
theorem dX48_apart_657 : decode cX48_apart 657 = .ok (.ifCond .ge 16, 3) := dk_156 0 16 (dk_at dksX48_apart_28 3 rfl rfl)
theorem dX48_apart_660 : decode cX48_apart 660 = .ok (.aload_n 0, 1) := dk_42 (dk_at dksX48_apart_28 6 rfl rfl)
theorem dX48_apart_661 : decode cX48_apart 661 = .ok (.getfield 56, 3) := dk_180 0 56 (dk_at dksX48_apart_28 7 rfl rfl)
theorem dX48_apart_664 : decode cX48_apart 664 = .ok (.invokevirtual 895, 3) := dk_182 3 127 (dk_at dksX48_apart_28 10 rfl rfl)
theorem dX48_apart_667 : decode cX48_apart 667 = .ok (.invokestatic 328, 3) := dk_184 1 72 (dk_at dksX48_apart_28 13 rfl rfl)
theorem dX48_apart_670 : decode cX48_apart 670 = .ok (.goto 4, 3) := dk_167 0 4 (dk_at dksX48_apart_28 16 rfl rfl)
theorem dX48_apart_673 : decode cX48_apart 673 = .ok (.lconst 0, 1) := dk_9 (dk_at dksX48_apart_28 19 rfl rfl)
theorem dX48_apart_674 : decode cX48_apart 674 = .ok (.lreturn, 1) := dk_173 (dk_at dksX48_apart_28 20 rfl rfl)
theorem dX48_apart_675 : decode cX48_apart 675 = .ok (.aload_n 0, 1) := dk_42 (dk_at dksX48_apart_28 21 rfl rfl)
theorem dX48_apart_676 : decode cX48_apart 676 = .ok (.ldc_w 688, 3) := dk_19 2 176 (dk_at dksX48_apart_29 0 rfl rfl)
theorem dX48_apart_679 : decode cX48_apart 679 = .ok (.ldc_w 272, 3) := dk_19 1 16 (dk_at dksX48_apart_29 3 rfl rfl)
theorem dX48_apart_682 : decode cX48_apart 682 = .ok (.invokevirtual 263, 3) := dk_182 1 7 (dk_at dksX48_apart_29 6 rfl rfl)
theorem dX48_apart_685 : decode cX48_apart 685 = .ok (.ifCond .eq 22, 3) := dk_153 0 22 (dk_at dksX48_apart_29 9 rfl rfl)
theorem dX48_apart_688 : decode cX48_apart 688 = .ok (.aload_n 0, 1) := dk_42 (dk_at dksX48_apart_29 12 rfl rfl)
theorem dX48_apart_689 : decode cX48_apart 689 = .ok (.getfield 167, 3) := dk_180 0 167 (dk_at dksX48_apart_29 13 rfl rfl)
theorem dX48_apart_692 : decode cX48_apart 692 = .ok (.ifCond .ge 13, 3) := dk_156 0 13 (dk_at dksX48_apart_29 16 rfl rfl)
theorem dX48_apart_695 : decode cX48_apart 695 = .ok (.aload_n 0, 1) := dk_42 (dk_at dksX48_apart_29 19 rfl rfl)
theorem dX48_apart_696 : decode cX48_apart 696 = .ok (.getfield 56, 3) := dk_180 0 56 (dk_at dksX48_apart_29 20 rfl rfl)
theorem dX48_apart_699 : decode cX48_apart 699 = .ok (.invokevirtual 897, 3) := dk_182 3 129 (dk_at dksX48_apart_30 0 rfl rfl)
theorem dX48_apart_702 : decode cX48_apart 702 = .ok (.goto 4, 3) := dk_167 0 4 (dk_at dksX48_apart_30 3 rfl rfl)
theorem dX48_apart_705 : decode cX48_apart 705 = .ok (.lconst 0, 1) := dk_9 (dk_at dksX48_apart_30 6 rfl rfl)
theorem dX48_apart_706 : decode cX48_apart 706 = .ok (.lreturn, 1) := dk_173 (dk_at dksX48_apart_30 7 rfl rfl)
theorem dX48_apart_707 : decode cX48_apart 707 = .ok (.aload_n 0, 1) := dk_42 (dk_at dksX48_apart_30 8 rfl rfl)
theorem dX48_apart_708 : decode cX48_apart 708 = .ok (.ldc_w 588, 3) := dk_19 2 76 (dk_at dksX48_apart_30 9 rfl rfl)
theorem dX48_apart_711 : decode cX48_apart 711 = .ok (.ldc_w 284, 3) := dk_19 1 28 (dk_at dksX48_apart_30 12 rfl rfl)
theorem dX48_apart_714 : decode cX48_apart 714 = .ok (.invokevirtual 263, 3) := dk_182 1 7 (dk_at dksX48_apart_30 15 rfl rfl)
theorem dX48_apart_717 : decode cX48_apart 717 = .ok (.ifCond .eq 36, 3) := dk_153 0 36 (dk_at dksX48_apart_30 18 rfl rfl)
theorem dX48_apart_720 : decode cX48_apart 720 = .ok (.aload_n 0, 1) := dk_42 (dk_at dksX48_apart_30 21 rfl rfl)
theorem dX48_apart_721 : decode cX48_apart 721 = .ok (.getfield 167, 3) := dk_180 0 167 (dk_at dksX48_apart_31 0 rfl rfl)
theorem dX48_apart_724 : decode cX48_apart 724 = .ok (.ifCond .ge 27, 3) := dk_156 0 27 (dk_at dksX48_apart_31 3 rfl rfl)
theorem dX48_apart_727 : decode cX48_apart 727 = .ok (.aload_n 0, 1) := dk_42 (dk_at dksX48_apart_31 6 rfl rfl)
theorem dX48_apart_728 : decode cX48_apart 728 = .ok (.getfield 56, 3) := dk_180 0 56 (dk_at dksX48_apart_31 7 rfl rfl)
theorem dX48_apart_731 : decode cX48_apart 731 = .ok (.aload_n 0, 1) := dk_42 (dk_at dksX48_apart_31 10 rfl rfl)
theorem dX48_apart_732 : decode cX48_apart 732 = .ok (.getfield 99, 3) := dk_180 0 99 (dk_at dksX48_apart_31 11 rfl rfl)
theorem dX48_apart_735 : decode cX48_apart 735 = .ok (.iconst 0, 1) := dk_3 (dk_at dksX48_apart_31 14 rfl rfl)
theorem dX48_apart_736 : decode cX48_apart 736 = .ok (.laload, 1) := dk_47 (dk_at dksX48_apart_31 15 rfl rfl)
theorem dX48_apart_737 : decode cX48_apart 737 = .ok (.l2i, 1) := dk_136 (dk_at dksX48_apart_31 16 rfl rfl)
theorem dX48_apart_738 : decode cX48_apart 738 = .ok (.aload_n 0, 1) := dk_42 (dk_at dksX48_apart_31 17 rfl rfl)
theorem dX48_apart_739 : decode cX48_apart 739 = .ok (.getfield 99, 3) := dk_180 0 99 (dk_at dksX48_apart_31 18 rfl rfl)
theorem dX48_apart_742 : decode cX48_apart 742 = .ok (.iconst 1, 1) := dk_4 (dk_at dksX48_apart_31 21 rfl rfl)
theorem dX48_apart_743 : decode cX48_apart 743 = .ok (.laload, 1) := dk_47 (dk_at dksX48_apart_31 22 rfl rfl)
theorem dX48_apart_744 : decode cX48_apart 744 = .ok (.invokevirtual 899, 3) := dk_182 3 131 (dk_at dksX48_apart_32 0 rfl rfl)
theorem dX48_apart_747 : decode cX48_apart 747 = .ok (.i2l, 1) := dk_133 (dk_at dksX48_apart_32 3 rfl rfl)
theorem dX48_apart_748 : decode cX48_apart 748 = .ok (.goto 4, 3) := dk_167 0 4 (dk_at dksX48_apart_32 4 rfl rfl)
theorem dX48_apart_751 : decode cX48_apart 751 = .ok (.lconst 0, 1) := dk_9 (dk_at dksX48_apart_32 7 rfl rfl)
theorem dX48_apart_752 : decode cX48_apart 752 = .ok (.lreturn, 1) := dk_173 (dk_at dksX48_apart_32 8 rfl rfl)
theorem dX48_apart_753 : decode cX48_apart 753 = .ok (.aload_n 0, 1) := dk_42 (dk_at dksX48_apart_32 9 rfl rfl)
theorem dX48_apart_754 : decode cX48_apart 754 = .ok (.ldc_w 901, 3) := dk_19 3 133 (dk_at dksX48_apart_32 10 rfl rfl)
theorem dX48_apart_757 : decode cX48_apart 757 = .ok (.ldc_w 278, 3) := dk_19 1 22 (dk_at dksX48_apart_32 13 rfl rfl)
theorem dX48_apart_760 : decode cX48_apart 760 = .ok (.invokevirtual 263, 3) := dk_182 1 7 (dk_at dksX48_apart_32 16 rfl rfl)
theorem dX48_apart_763 : decode cX48_apart 763 = .ok (.ifCond .eq 30, 3) := dk_153 0 30 (dk_at dksX48_apart_32 19 rfl rfl)
theorem dX48_apart_766 : decode cX48_apart 766 = .ok (.aload_n 0, 1) := dk_42 (dk_at dksX48_apart_32 22 rfl rfl)
theorem dX48_apart_767 : decode cX48_apart 767 = .ok (.getfield 167, 3) := dk_180 0 167 (dk_at dksX48_apart_33 0 rfl rfl)
theorem dX48_apart_770 : decode cX48_apart 770 = .ok (.ifCond .ge 21, 3) := dk_156 0 21 (dk_at dksX48_apart_33 3 rfl rfl)
theorem dX48_apart_773 : decode cX48_apart 773 = .ok (.aload_n 0, 1) := dk_42 (dk_at dksX48_apart_33 6 rfl rfl)
theorem dX48_apart_774 : decode cX48_apart 774 = .ok (.getfield 56, 3) := dk_180 0 56 (dk_at dksX48_apart_33 7 rfl rfl)
theorem dX48_apart_777 : decode cX48_apart 777 = .ok (.aload_n 0, 1) := dk_42 (dk_at dksX48_apart_33 10 rfl rfl)
theorem dX48_apart_778 : decode cX48_apart 778 = .ok (.getfield 99, 3) := dk_180 0 99 (dk_at dksX48_apart_33 11 rfl rfl)
theorem dX48_apart_781 : decode cX48_apart 781 = .ok (.iconst 0, 1) := dk_3 (dk_at dksX48_apart_33 14 rfl rfl)
theorem dX48_apart_782 : decode cX48_apart 782 = .ok (.laload, 1) := dk_47 (dk_at dksX48_apart_33 15 rfl rfl)
theorem dX48_apart_783 : decode cX48_apart 783 = .ok (.l2i, 1) := dk_136 (dk_at dksX48_apart_33 16 rfl rfl)
theorem dX48_apart_784 : decode cX48_apart 784 = .ok (.invokevirtual 903, 3) := dk_182 3 135 (dk_at dksX48_apart_33 17 rfl rfl)
theorem dX48_apart_787 : decode cX48_apart 787 = .ok (.i2l, 1) := dk_133 (dk_at dksX48_apart_33 20 rfl rfl)
theorem dX48_apart_788 : decode cX48_apart 788 = .ok (.goto 4, 3) := dk_167 0 4 (dk_at dksX48_apart_33 21 rfl rfl)
theorem dX48_apart_791 : decode cX48_apart 791 = .ok (.lconst 0, 1) := dk_9 (dk_at dksX48_apart_34 0 rfl rfl)
theorem dX48_apart_792 : decode cX48_apart 792 = .ok (.lreturn, 1) := dk_173 (dk_at dksX48_apart_34 1 rfl rfl)
theorem dX48_apart_793 : decode cX48_apart 793 = .ok (.aload_n 0, 1) := dk_42 (dk_at dksX48_apart_34 2 rfl rfl)
theorem dX48_apart_794 : decode cX48_apart 794 = .ok (.ldc_w 905, 3) := dk_19 3 137 (dk_at dksX48_apart_34 3 rfl rfl)
theorem dX48_apart_797 : decode cX48_apart 797 = .ok (.ldc_w 278, 3) := dk_19 1 22 (dk_at dksX48_apart_34 6 rfl rfl)
theorem dX48_apart_800 : decode cX48_apart 800 = .ok (.invokevirtual 263, 3) := dk_182 1 7 (dk_at dksX48_apart_34 9 rfl rfl)
theorem dX48_apart_803 : decode cX48_apart 803 = .ok (.ifCond .eq 30, 3) := dk_153 0 30 (dk_at dksX48_apart_34 12 rfl rfl)
theorem dX48_apart_806 : decode cX48_apart 806 = .ok (.aload_n 0, 1) := dk_42 (dk_at dksX48_apart_34 15 rfl rfl)
theorem dX48_apart_807 : decode cX48_apart 807 = .ok (.getfield 167, 3) := dk_180 0 167 (dk_at dksX48_apart_34 16 rfl rfl)
theorem dX48_apart_810 : decode cX48_apart 810 = .ok (.ifCond .ge 21, 3) := dk_156 0 21 (dk_at dksX48_apart_34 19 rfl rfl)
theorem dX48_apart_813 : decode cX48_apart 813 = .ok (.aload_n 0, 1) := dk_42 (dk_at dksX48_apart_34 22 rfl rfl)
theorem dX48_apart_814 : decode cX48_apart 814 = .ok (.getfield 56, 3) := dk_180 0 56 (dk_at dksX48_apart_35 0 rfl rfl)
theorem dX48_apart_817 : decode cX48_apart 817 = .ok (.aload_n 0, 1) := dk_42 (dk_at dksX48_apart_35 3 rfl rfl)
theorem dX48_apart_818 : decode cX48_apart 818 = .ok (.getfield 99, 3) := dk_180 0 99 (dk_at dksX48_apart_35 4 rfl rfl)
theorem dX48_apart_821 : decode cX48_apart 821 = .ok (.iconst 0, 1) := dk_3 (dk_at dksX48_apart_35 7 rfl rfl)
theorem dX48_apart_822 : decode cX48_apart 822 = .ok (.laload, 1) := dk_47 (dk_at dksX48_apart_35 8 rfl rfl)
theorem dX48_apart_823 : decode cX48_apart 823 = .ok (.l2i, 1) := dk_136 (dk_at dksX48_apart_35 9 rfl rfl)
theorem dX48_apart_824 : decode cX48_apart 824 = .ok (.invokevirtual 907, 3) := dk_182 3 139 (dk_at dksX48_apart_35 10 rfl rfl)
theorem dX48_apart_827 : decode cX48_apart 827 = .ok (.i2l, 1) := dk_133 (dk_at dksX48_apart_35 13 rfl rfl)
theorem dX48_apart_828 : decode cX48_apart 828 = .ok (.goto 4, 3) := dk_167 0 4 (dk_at dksX48_apart_35 14 rfl rfl)
theorem dX48_apart_831 : decode cX48_apart 831 = .ok (.lconst 0, 1) := dk_9 (dk_at dksX48_apart_35 17 rfl rfl)
theorem dX48_apart_832 : decode cX48_apart 832 = .ok (.lreturn, 1) := dk_173 (dk_at dksX48_apart_35 18 rfl rfl)
theorem dX48_apart_833 : decode cX48_apart 833 = .ok (.aload_n 0, 1) := dk_42 (dk_at dksX48_apart_35 19 rfl rfl)
theorem dX48_apart_834 : decode cX48_apart 834 = .ok (.invokevirtual 332, 3) := dk_182 1 76 (dk_at dksX48_apart_35 20 rfl rfl)
theorem dX48_apart_837 : decode cX48_apart 837 = .ok (.lreturn, 1) := dk_173 (dk_at dksX48_apart_35 23 rfl rfl)
abbrev cX48_samples : ByteArray := prog_56_method_45_code
def yX48_samples : MethodName := ⟨RX48, "samples", "()J"⟩
def dkwX48_samples_31 : List UInt8 := [180, 0, 99, 3, 47, 136, 182, 3, 187, 133, 167, 0, 4, 9, 173, 42, 182, 1, 76, 173]
abbrev dktX48_samples_31 : List UInt8 := dkwX48_samples_31 ++ []
def dkwX48_samples_30 : List UInt8 := [19, 3, 185, 19, 1, 22, 182, 1, 7, 153, 0, 30, 42, 180, 0, 167, 156, 0, 21, 42, 180, 0, 65, 42]
abbrev dktX48_samples_30 : List UInt8 := dkwX48_samples_30 ++ dktX48_samples_31
def dkwX48_samples_29 : List UInt8 := [180, 0, 99, 3, 47, 136, 42, 180, 0, 99, 4, 47, 136, 182, 3, 183, 167, 0, 4, 9, 173, 42]
abbrev dktX48_samples_29 : List UInt8 := dkwX48_samples_29 ++ dktX48_samples_30
def dkwX48_samples_28 : List UInt8 := [19, 3, 181, 19, 1, 36, 182, 1, 7, 153, 0, 36, 42, 180, 0, 167, 156, 0, 27, 42, 180, 0, 65, 42]
abbrev dktX48_samples_28 : List UInt8 := dkwX48_samples_28 ++ dktX48_samples_29
def dkwX48_samples_27 : List UInt8 := [42, 180, 0, 99, 4, 47, 42, 180, 0, 99, 5, 47, 182, 3, 179, 184, 1, 72, 167, 0, 4, 9, 173, 42]
abbrev dktX48_samples_27 : List UInt8 := dkwX48_samples_27 ++ dktX48_samples_28
def dkwX48_samples_26 : List UInt8 := [182, 1, 7, 153, 0, 44, 42, 180, 0, 167, 156, 0, 35, 42, 180, 0, 65, 42, 180, 0, 99, 3, 47, 136]
abbrev dktX48_samples_26 : List UInt8 := dkwX48_samples_26 ++ dktX48_samples_27
def dkwX48_samples_25 : List UInt8 := [180, 0, 99, 4, 47, 136, 182, 3, 175, 133, 167, 0, 4, 9, 173, 42, 19, 3, 177, 19, 2, 35]
abbrev dktX48_samples_25 : List UInt8 := dkwX48_samples_25 ++ dktX48_samples_26
def dkwX48_samples_24 : List UInt8 := [153, 0, 37, 42, 180, 0, 167, 156, 0, 28, 42, 180, 0, 65, 42, 180, 0, 99, 3, 47, 136, 42]
abbrev dktX48_samples_24 : List UInt8 := dkwX48_samples_24 ++ dktX48_samples_25
def dkwX48_samples_23 : List UInt8 := [180, 0, 99, 5, 47, 182, 3, 173, 133, 167, 0, 4, 9, 173, 42, 19, 2, 217, 19, 1, 36, 182, 1, 7]
abbrev dktX48_samples_23 : List UInt8 := dkwX48_samples_23 ++ dktX48_samples_24
def dkwX48_samples_22 : List UInt8 := [180, 0, 167, 156, 0, 33, 42, 180, 0, 65, 42, 180, 0, 99, 3, 47, 136, 42, 180, 0, 99, 4, 47, 42]
abbrev dktX48_samples_22 : List UInt8 := dkwX48_samples_22 ++ dktX48_samples_23
def dkwX48_samples_21 : List UInt8 := [182, 1, 115, 167, 0, 4, 9, 173, 42, 19, 3, 171, 19, 2, 35, 182, 1, 7, 153, 0, 42, 42]
abbrev dktX48_samples_21 : List UInt8 := dkwX48_samples_21 ++ dktX48_samples_22
def dkwX48_samples_20 : List UInt8 := [182, 1, 7, 153, 0, 29, 42, 180, 0, 167, 156, 0, 20, 42, 180, 0, 65, 42, 180, 0, 99, 3, 47, 136]
abbrev dktX48_samples_20 : List UInt8 := dkwX48_samples_20 ++ dktX48_samples_21
def dkwX48_samples_19 : List UInt8 := [180, 0, 99, 5, 47, 182, 3, 167, 184, 1, 72, 167, 0, 4, 9, 173, 42, 19, 3, 170, 19, 1, 22]
abbrev dktX48_samples_19 : List UInt8 := dkwX48_samples_19 ++ dktX48_samples_20
def dkwX48_samples_18 : List UInt8 := [180, 0, 167, 156, 0, 34, 42, 180, 0, 65, 42, 180, 0, 99, 3, 47, 42, 180, 0, 99, 4, 47, 42]
abbrev dktX48_samples_18 : List UInt8 := dkwX48_samples_18 ++ dktX48_samples_19
def dkwX48_samples_17 : List UInt8 := [182, 3, 165, 133, 167, 0, 4, 9, 173, 42, 19, 2, 238, 19, 2, 219, 182, 1, 7, 153, 0, 43, 42]
abbrev dktX48_samples_17 : List UInt8 := dkwX48_samples_17 ++ dktX48_samples_18
def dkwX48_samples_16 : List UInt8 := [182, 1, 7, 153, 0, 30, 42, 180, 0, 167, 156, 0, 21, 42, 180, 0, 65, 42, 180, 0, 99, 3, 47, 136]
abbrev dktX48_samples_16 : List UInt8 := dkwX48_samples_16 ++ dktX48_samples_17
def dkwX48_samples_15 : List UInt8 := [136, 42, 180, 0, 99, 5, 47, 136, 182, 1, 122, 167, 0, 4, 9, 173, 42, 19, 3, 163, 19, 1, 22]
abbrev dktX48_samples_15 : List UInt8 := dkwX48_samples_15 ++ dktX48_samples_16
def dkwX48_samples_14 : List UInt8 := [42, 180, 0, 167, 156, 0, 34, 42, 180, 0, 65, 42, 180, 0, 99, 3, 47, 136, 42, 180, 0, 99, 4, 47]
abbrev dktX48_samples_14 : List UInt8 := dkwX48_samples_14 ++ dktX48_samples_15
def dkwX48_samples_13 : List UInt8 := [182, 1, 112, 184, 1, 72, 167, 0, 4, 9, 173, 42, 19, 1, 236, 19, 1, 242, 182, 1, 7, 153, 0, 43]
abbrev dktX48_samples_13 : List UInt8 := dkwX48_samples_13 ++ dktX48_samples_14
def dkwX48_samples_12 : List UInt8 := [180, 0, 65, 42, 180, 0, 99, 3, 47, 136, 42, 180, 0, 99, 4, 47, 136, 42, 180, 0, 99, 5, 47]
abbrev dktX48_samples_12 : List UInt8 := dkwX48_samples_12 ++ dktX48_samples_13
def dkwX48_samples_11 : List UInt8 := [173, 42, 19, 3, 162, 19, 1, 195, 182, 1, 7, 153, 0, 45, 42, 180, 0, 167, 156, 0, 36, 42]
abbrev dktX48_samples_11 : List UInt8 := dkwX48_samples_11 ++ dktX48_samples_12
def dkwX48_samples_10 : List UInt8 := [180, 0, 167, 156, 0, 20, 42, 180, 0, 65, 42, 180, 0, 99, 3, 47, 182, 1, 108, 133, 167, 0, 4, 9]
abbrev dktX48_samples_10 : List UInt8 := dkwX48_samples_10 ++ dktX48_samples_11
def dkwX48_samples_9 : List UInt8 := [182, 3, 159, 167, 0, 4, 9, 173, 42, 19, 3, 161, 19, 2, 71, 182, 1, 7, 153, 0, 29, 42]
abbrev dktX48_samples_9 : List UInt8 := dkwX48_samples_9 ++ dktX48_samples_10
def dkwX48_samples_8 : List UInt8 := [180, 0, 65, 42, 180, 0, 99, 3, 47, 136, 42, 180, 0, 99, 4, 47, 136, 42, 180, 0, 99, 5, 47, 136]
abbrev dktX48_samples_8 : List UInt8 := dkwX48_samples_8 ++ dktX48_samples_9
def dkwX48_samples_7 : List UInt8 := [9, 173, 42, 19, 3, 157, 19, 1, 242, 182, 1, 7, 153, 0, 43, 42, 180, 0, 167, 156, 0, 34, 42]
abbrev dktX48_samples_7 : List UInt8 := dkwX48_samples_7 ++ dktX48_samples_8
def dkwX48_samples_6 : List UInt8 := [180, 0, 99, 5, 47, 42, 180, 0, 99, 6, 47, 42, 180, 0, 99, 7, 47, 182, 3, 154, 133, 167, 0, 4]
abbrev dktX48_samples_6 : List UInt8 := dkwX48_samples_6 ++ dktX48_samples_7
def dkwX48_samples_5 : List UInt8 := [180, 0, 167, 156, 0, 45, 42, 180, 0, 65, 42, 180, 0, 99, 3, 47, 136, 42, 180, 0, 99, 4, 47, 42]
abbrev dktX48_samples_5 : List UInt8 := dkwX48_samples_5 ++ dktX48_samples_6
def dkwX48_samples_4 : List UInt8 := [136, 182, 3, 147, 167, 0, 4, 9, 173, 42, 19, 3, 150, 19, 3, 152, 182, 1, 7, 153, 0, 54, 42]
abbrev dktX48_samples_4 : List UInt8 := dkwX48_samples_4 ++ dktX48_samples_5
def dkwX48_samples_3 : List UInt8 := [180, 0, 99, 3, 47, 136, 42, 180, 0, 99, 4, 47, 42, 180, 0, 99, 5, 47, 42, 180, 0, 99, 6, 47]
abbrev dktX48_samples_3 : List UInt8 := dkwX48_samples_3 ++ dktX48_samples_4
def dkwX48_samples_2 : List UInt8 := [19, 3, 143, 19, 3, 145, 182, 1, 7, 153, 0, 48, 42, 180, 0, 167, 156, 0, 39, 42, 180, 0, 65, 42]
abbrev dktX48_samples_2 : List UInt8 := dkwX48_samples_2 ++ dktX48_samples_3
def dkwX48_samples_1 : List UInt8 := [42, 180, 0, 99, 3, 47, 136, 42, 180, 0, 99, 4, 47, 136, 182, 3, 141, 133, 167, 0, 4, 9, 173, 42]
abbrev dktX48_samples_1 : List UInt8 := dkwX48_samples_1 ++ dktX48_samples_2
def dkwX48_samples_0 : List UInt8 := [42, 19, 2, 230, 19, 1, 36, 182, 1, 7, 153, 0, 37, 42, 180, 0, 167, 156, 0, 28, 42, 180, 0, 65]
abbrev dktX48_samples_0 : List UInt8 := dkwX48_samples_0 ++ dktX48_samples_1
theorem dksX48_samples_0 : cX48_samples.data.toList.drop 0 = dktX48_samples_0 := by decide +kernel
theorem dksX48_samples_1 : cX48_samples.data.toList.drop 24 = dktX48_samples_1 := dk_seg dksX48_samples_0 24 rfl rfl
theorem dksX48_samples_2 : cX48_samples.data.toList.drop 48 = dktX48_samples_2 := dk_seg dksX48_samples_1 24 rfl rfl
theorem dksX48_samples_3 : cX48_samples.data.toList.drop 72 = dktX48_samples_3 := dk_seg dksX48_samples_2 24 rfl rfl
theorem dksX48_samples_4 : cX48_samples.data.toList.drop 96 = dktX48_samples_4 := dk_seg dksX48_samples_3 24 rfl rfl
theorem dksX48_samples_5 : cX48_samples.data.toList.drop 119 = dktX48_samples_5 := dk_seg dksX48_samples_4 23 rfl rfl
theorem dksX48_samples_6 : cX48_samples.data.toList.drop 143 = dktX48_samples_6 := dk_seg dksX48_samples_5 24 rfl rfl
theorem dksX48_samples_7 : cX48_samples.data.toList.drop 167 = dktX48_samples_7 := dk_seg dksX48_samples_6 24 rfl rfl
theorem dksX48_samples_8 : cX48_samples.data.toList.drop 190 = dktX48_samples_8 := dk_seg dksX48_samples_7 23 rfl rfl
theorem dksX48_samples_9 : cX48_samples.data.toList.drop 214 = dktX48_samples_9 := dk_seg dksX48_samples_8 24 rfl rfl
theorem dksX48_samples_10 : cX48_samples.data.toList.drop 236 = dktX48_samples_10 := dk_seg dksX48_samples_9 22 rfl rfl
theorem dksX48_samples_11 : cX48_samples.data.toList.drop 260 = dktX48_samples_11 := dk_seg dksX48_samples_10 24 rfl rfl
theorem dksX48_samples_12 : cX48_samples.data.toList.drop 282 = dktX48_samples_12 := dk_seg dksX48_samples_11 22 rfl rfl
theorem dksX48_samples_13 : cX48_samples.data.toList.drop 305 = dktX48_samples_13 := dk_seg dksX48_samples_12 23 rfl rfl
theorem dksX48_samples_14 : cX48_samples.data.toList.drop 329 = dktX48_samples_14 := dk_seg dksX48_samples_13 24 rfl rfl
theorem dksX48_samples_15 : cX48_samples.data.toList.drop 353 = dktX48_samples_15 := dk_seg dksX48_samples_14 24 rfl rfl
theorem dksX48_samples_16 : cX48_samples.data.toList.drop 376 = dktX48_samples_16 := dk_seg dksX48_samples_15 23 rfl rfl
theorem dksX48_samples_17 : cX48_samples.data.toList.drop 400 = dktX48_samples_17 := dk_seg dksX48_samples_16 24 rfl rfl
theorem dksX48_samples_18 : cX48_samples.data.toList.drop 423 = dktX48_samples_18 := dk_seg dksX48_samples_17 23 rfl rfl
theorem dksX48_samples_19 : cX48_samples.data.toList.drop 446 = dktX48_samples_19 := dk_seg dksX48_samples_18 23 rfl rfl
theorem dksX48_samples_20 : cX48_samples.data.toList.drop 469 = dktX48_samples_20 := dk_seg dksX48_samples_19 23 rfl rfl
theorem dksX48_samples_21 : cX48_samples.data.toList.drop 493 = dktX48_samples_21 := dk_seg dksX48_samples_20 24 rfl rfl
theorem dksX48_samples_22 : cX48_samples.data.toList.drop 515 = dktX48_samples_22 := dk_seg dksX48_samples_21 22 rfl rfl
theorem dksX48_samples_23 : cX48_samples.data.toList.drop 539 = dktX48_samples_23 := dk_seg dksX48_samples_22 24 rfl rfl
theorem dksX48_samples_24 : cX48_samples.data.toList.drop 563 = dktX48_samples_24 := dk_seg dksX48_samples_23 24 rfl rfl
theorem dksX48_samples_25 : cX48_samples.data.toList.drop 585 = dktX48_samples_25 := dk_seg dksX48_samples_24 22 rfl rfl
theorem dksX48_samples_26 : cX48_samples.data.toList.drop 607 = dktX48_samples_26 := dk_seg dksX48_samples_25 22 rfl rfl
theorem dksX48_samples_27 : cX48_samples.data.toList.drop 631 = dktX48_samples_27 := dk_seg dksX48_samples_26 24 rfl rfl
theorem dksX48_samples_28 : cX48_samples.data.toList.drop 655 = dktX48_samples_28 := dk_seg dksX48_samples_27 24 rfl rfl
theorem dksX48_samples_29 : cX48_samples.data.toList.drop 679 = dktX48_samples_29 := dk_seg dksX48_samples_28 24 rfl rfl
theorem dksX48_samples_30 : cX48_samples.data.toList.drop 701 = dktX48_samples_30 := dk_seg dksX48_samples_29 22 rfl rfl
theorem dksX48_samples_31 : cX48_samples.data.toList.drop 725 = dktX48_samples_31 := dk_seg dksX48_samples_30 24 rfl rfl
theorem dX48_samples_0 : decode cX48_samples 0 = .ok (.aload_n 0, 1) := dk_42 (dk_at dksX48_samples_0 0 rfl rfl)
theorem dX48_samples_1 : decode cX48_samples 1 = .ok (.ldc_w 742, 3) := dk_19 2 230 (dk_at dksX48_samples_0 1 rfl rfl)
theorem dX48_samples_4 : decode cX48_samples 4 = .ok (.ldc_w 292, 3) := dk_19 1 36 (dk_at dksX48_samples_0 4 rfl rfl)
theorem dX48_samples_7 : decode cX48_samples 7 = .ok (.invokevirtual 263, 3) := dk_182 1 7 (dk_at dksX48_samples_0 7 rfl rfl)
theorem dX48_samples_10 : decode cX48_samples 10 = .ok (.ifCond .eq 37, 3) := dk_153 0 37 (dk_at dksX48_samples_0 10 rfl rfl)
theorem dX48_samples_13 : decode cX48_samples 13 = .ok (.aload_n 0, 1) := dk_42 (dk_at dksX48_samples_0 13 rfl rfl)
theorem dX48_samples_14 : decode cX48_samples 14 = .ok (.getfield 167, 3) := dk_180 0 167 (dk_at dksX48_samples_0 14 rfl rfl)
theorem dX48_samples_17 : decode cX48_samples 17 = .ok (.ifCond .ge 28, 3) := dk_156 0 28 (dk_at dksX48_samples_0 17 rfl rfl)
theorem dX48_samples_20 : decode cX48_samples 20 = .ok (.aload_n 0, 1) := dk_42 (dk_at dksX48_samples_0 20 rfl rfl)
theorem dX48_samples_21 : decode cX48_samples 21 = .ok (.getfield 65, 3) := dk_180 0 65 (dk_at dksX48_samples_0 21 rfl rfl)
theorem dX48_samples_24 : decode cX48_samples 24 = .ok (.aload_n 0, 1) := dk_42 (dk_at dksX48_samples_1 0 rfl rfl)
theorem dX48_samples_25 : decode cX48_samples 25 = .ok (.getfield 99, 3) := dk_180 0 99 (dk_at dksX48_samples_1 1 rfl rfl)
theorem dX48_samples_28 : decode cX48_samples 28 = .ok (.iconst 0, 1) := dk_3 (dk_at dksX48_samples_1 4 rfl rfl)
theorem dX48_samples_29 : decode cX48_samples 29 = .ok (.laload, 1) := dk_47 (dk_at dksX48_samples_1 5 rfl rfl)
theorem dX48_samples_30 : decode cX48_samples 30 = .ok (.l2i, 1) := dk_136 (dk_at dksX48_samples_1 6 rfl rfl)
theorem dX48_samples_31 : decode cX48_samples 31 = .ok (.aload_n 0, 1) := dk_42 (dk_at dksX48_samples_1 7 rfl rfl)
theorem dX48_samples_32 : decode cX48_samples 32 = .ok (.getfield 99, 3) := dk_180 0 99 (dk_at dksX48_samples_1 8 rfl rfl)
theorem dX48_samples_35 : decode cX48_samples 35 = .ok (.iconst 1, 1) := dk_4 (dk_at dksX48_samples_1 11 rfl rfl)
theorem dX48_samples_36 : decode cX48_samples 36 = .ok (.laload, 1) := dk_47 (dk_at dksX48_samples_1 12 rfl rfl)
theorem dX48_samples_37 : decode cX48_samples 37 = .ok (.l2i, 1) := dk_136 (dk_at dksX48_samples_1 13 rfl rfl)
theorem dX48_samples_38 : decode cX48_samples 38 = .ok (.invokevirtual 909, 3) := dk_182 3 141 (dk_at dksX48_samples_1 14 rfl rfl)
theorem dX48_samples_41 : decode cX48_samples 41 = .ok (.i2l, 1) := dk_133 (dk_at dksX48_samples_1 17 rfl rfl)
theorem dX48_samples_42 : decode cX48_samples 42 = .ok (.goto 4, 3) := dk_167 0 4 (dk_at dksX48_samples_1 18 rfl rfl)
theorem dX48_samples_45 : decode cX48_samples 45 = .ok (.lconst 0, 1) := dk_9 (dk_at dksX48_samples_1 21 rfl rfl)
theorem dX48_samples_46 : decode cX48_samples 46 = .ok (.lreturn, 1) := dk_173 (dk_at dksX48_samples_1 22 rfl rfl)
theorem dX48_samples_47 : decode cX48_samples 47 = .ok (.aload_n 0, 1) := dk_42 (dk_at dksX48_samples_1 23 rfl rfl)
theorem dX48_samples_48 : decode cX48_samples 48 = .ok (.ldc_w 911, 3) := dk_19 3 143 (dk_at dksX48_samples_2 0 rfl rfl)
theorem dX48_samples_51 : decode cX48_samples 51 = .ok (.ldc_w 913, 3) := dk_19 3 145 (dk_at dksX48_samples_2 3 rfl rfl)
theorem dX48_samples_54 : decode cX48_samples 54 = .ok (.invokevirtual 263, 3) := dk_182 1 7 (dk_at dksX48_samples_2 6 rfl rfl)
theorem dX48_samples_57 : decode cX48_samples 57 = .ok (.ifCond .eq 48, 3) := dk_153 0 48 (dk_at dksX48_samples_2 9 rfl rfl)
theorem dX48_samples_60 : decode cX48_samples 60 = .ok (.aload_n 0, 1) := dk_42 (dk_at dksX48_samples_2 12 rfl rfl)
theorem dX48_samples_61 : decode cX48_samples 61 = .ok (.getfield 167, 3) := dk_180 0 167 (dk_at dksX48_samples_2 13 rfl rfl)
theorem dX48_samples_64 : decode cX48_samples 64 = .ok (.ifCond .ge 39, 3) := dk_156 0 39 (dk_at dksX48_samples_2 16 rfl rfl)
theorem dX48_samples_67 : decode cX48_samples 67 = .ok (.aload_n 0, 1) := dk_42 (dk_at dksX48_samples_2 19 rfl rfl)
theorem dX48_samples_68 : decode cX48_samples 68 = .ok (.getfield 65, 3) := dk_180 0 65 (dk_at dksX48_samples_2 20 rfl rfl)
theorem dX48_samples_71 : decode cX48_samples 71 = .ok (.aload_n 0, 1) := dk_42 (dk_at dksX48_samples_2 23 rfl rfl)
theorem dX48_samples_72 : decode cX48_samples 72 = .ok (.getfield 99, 3) := dk_180 0 99 (dk_at dksX48_samples_3 0 rfl rfl)
theorem dX48_samples_75 : decode cX48_samples 75 = .ok (.iconst 0, 1) := dk_3 (dk_at dksX48_samples_3 3 rfl rfl)
theorem dX48_samples_76 : decode cX48_samples 76 = .ok (.laload, 1) := dk_47 (dk_at dksX48_samples_3 4 rfl rfl)
theorem dX48_samples_77 : decode cX48_samples 77 = .ok (.l2i, 1) := dk_136 (dk_at dksX48_samples_3 5 rfl rfl)
theorem dX48_samples_78 : decode cX48_samples 78 = .ok (.aload_n 0, 1) := dk_42 (dk_at dksX48_samples_3 6 rfl rfl)
theorem dX48_samples_79 : decode cX48_samples 79 = .ok (.getfield 99, 3) := dk_180 0 99 (dk_at dksX48_samples_3 7 rfl rfl)
theorem dX48_samples_82 : decode cX48_samples 82 = .ok (.iconst 1, 1) := dk_4 (dk_at dksX48_samples_3 10 rfl rfl)
theorem dX48_samples_83 : decode cX48_samples 83 = .ok (.laload, 1) := dk_47 (dk_at dksX48_samples_3 11 rfl rfl)
theorem dX48_samples_84 : decode cX48_samples 84 = .ok (.aload_n 0, 1) := dk_42 (dk_at dksX48_samples_3 12 rfl rfl)
theorem dX48_samples_85 : decode cX48_samples 85 = .ok (.getfield 99, 3) := dk_180 0 99 (dk_at dksX48_samples_3 13 rfl rfl)
theorem dX48_samples_88 : decode cX48_samples 88 = .ok (.iconst 2, 1) := dk_5 (dk_at dksX48_samples_3 16 rfl rfl)
theorem dX48_samples_89 : decode cX48_samples 89 = .ok (.laload, 1) := dk_47 (dk_at dksX48_samples_3 17 rfl rfl)
theorem dX48_samples_90 : decode cX48_samples 90 = .ok (.aload_n 0, 1) := dk_42 (dk_at dksX48_samples_3 18 rfl rfl)
theorem dX48_samples_91 : decode cX48_samples 91 = .ok (.getfield 99, 3) := dk_180 0 99 (dk_at dksX48_samples_3 19 rfl rfl)
theorem dX48_samples_94 : decode cX48_samples 94 = .ok (.iconst 3, 1) := dk_6 (dk_at dksX48_samples_3 22 rfl rfl)
theorem dX48_samples_95 : decode cX48_samples 95 = .ok (.laload, 1) := dk_47 (dk_at dksX48_samples_3 23 rfl rfl)
theorem dX48_samples_96 : decode cX48_samples 96 = .ok (.l2i, 1) := dk_136 (dk_at dksX48_samples_4 0 rfl rfl)
theorem dX48_samples_97 : decode cX48_samples 97 = .ok (.invokevirtual 915, 3) := dk_182 3 147 (dk_at dksX48_samples_4 1 rfl rfl)
theorem dX48_samples_100 : decode cX48_samples 100 = .ok (.goto 4, 3) := dk_167 0 4 (dk_at dksX48_samples_4 4 rfl rfl)
theorem dX48_samples_103 : decode cX48_samples 103 = .ok (.lconst 0, 1) := dk_9 (dk_at dksX48_samples_4 7 rfl rfl)
theorem dX48_samples_104 : decode cX48_samples 104 = .ok (.lreturn, 1) := dk_173 (dk_at dksX48_samples_4 8 rfl rfl)
theorem dX48_samples_105 : decode cX48_samples 105 = .ok (.aload_n 0, 1) := dk_42 (dk_at dksX48_samples_4 9 rfl rfl)
theorem dX48_samples_106 : decode cX48_samples 106 = .ok (.ldc_w 918, 3) := dk_19 3 150 (dk_at dksX48_samples_4 10 rfl rfl)
theorem dX48_samples_109 : decode cX48_samples 109 = .ok (.ldc_w 920, 3) := dk_19 3 152 (dk_at dksX48_samples_4 13 rfl rfl)
theorem dX48_samples_112 : decode cX48_samples 112 = .ok (.invokevirtual 263, 3) := dk_182 1 7 (dk_at dksX48_samples_4 16 rfl rfl)
theorem dX48_samples_115 : decode cX48_samples 115 = .ok (.ifCond .eq 54, 3) := dk_153 0 54 (dk_at dksX48_samples_4 19 rfl rfl)
theorem dX48_samples_118 : decode cX48_samples 118 = .ok (.aload_n 0, 1) := dk_42 (dk_at dksX48_samples_4 22 rfl rfl)
theorem dX48_samples_119 : decode cX48_samples 119 = .ok (.getfield 167, 3) := dk_180 0 167 (dk_at dksX48_samples_5 0 rfl rfl)
theorem dX48_samples_122 : decode cX48_samples 122 = .ok (.ifCond .ge 45, 3) := dk_156 0 45 (dk_at dksX48_samples_5 3 rfl rfl)
theorem dX48_samples_125 : decode cX48_samples 125 = .ok (.aload_n 0, 1) := dk_42 (dk_at dksX48_samples_5 6 rfl rfl)
theorem dX48_samples_126 : decode cX48_samples 126 = .ok (.getfield 65, 3) := dk_180 0 65 (dk_at dksX48_samples_5 7 rfl rfl)
theorem dX48_samples_129 : decode cX48_samples 129 = .ok (.aload_n 0, 1) := dk_42 (dk_at dksX48_samples_5 10 rfl rfl)
theorem dX48_samples_130 : decode cX48_samples 130 = .ok (.getfield 99, 3) := dk_180 0 99 (dk_at dksX48_samples_5 11 rfl rfl)
theorem dX48_samples_133 : decode cX48_samples 133 = .ok (.iconst 0, 1) := dk_3 (dk_at dksX48_samples_5 14 rfl rfl)
theorem dX48_samples_134 : decode cX48_samples 134 = .ok (.laload, 1) := dk_47 (dk_at dksX48_samples_5 15 rfl rfl)
theorem dX48_samples_135 : decode cX48_samples 135 = .ok (.l2i, 1) := dk_136 (dk_at dksX48_samples_5 16 rfl rfl)
theorem dX48_samples_136 : decode cX48_samples 136 = .ok (.aload_n 0, 1) := dk_42 (dk_at dksX48_samples_5 17 rfl rfl)
theorem dX48_samples_137 : decode cX48_samples 137 = .ok (.getfield 99, 3) := dk_180 0 99 (dk_at dksX48_samples_5 18 rfl rfl)
theorem dX48_samples_140 : decode cX48_samples 140 = .ok (.iconst 1, 1) := dk_4 (dk_at dksX48_samples_5 21 rfl rfl)
theorem dX48_samples_141 : decode cX48_samples 141 = .ok (.laload, 1) := dk_47 (dk_at dksX48_samples_5 22 rfl rfl)
theorem dX48_samples_142 : decode cX48_samples 142 = .ok (.aload_n 0, 1) := dk_42 (dk_at dksX48_samples_5 23 rfl rfl)
theorem dX48_samples_143 : decode cX48_samples 143 = .ok (.getfield 99, 3) := dk_180 0 99 (dk_at dksX48_samples_6 0 rfl rfl)
theorem dX48_samples_146 : decode cX48_samples 146 = .ok (.iconst 2, 1) := dk_5 (dk_at dksX48_samples_6 3 rfl rfl)
theorem dX48_samples_147 : decode cX48_samples 147 = .ok (.laload, 1) := dk_47 (dk_at dksX48_samples_6 4 rfl rfl)
theorem dX48_samples_148 : decode cX48_samples 148 = .ok (.aload_n 0, 1) := dk_42 (dk_at dksX48_samples_6 5 rfl rfl)
theorem dX48_samples_149 : decode cX48_samples 149 = .ok (.getfield 99, 3) := dk_180 0 99 (dk_at dksX48_samples_6 6 rfl rfl)
theorem dX48_samples_152 : decode cX48_samples 152 = .ok (.iconst 3, 1) := dk_6 (dk_at dksX48_samples_6 9 rfl rfl)
theorem dX48_samples_153 : decode cX48_samples 153 = .ok (.laload, 1) := dk_47 (dk_at dksX48_samples_6 10 rfl rfl)
theorem dX48_samples_154 : decode cX48_samples 154 = .ok (.aload_n 0, 1) := dk_42 (dk_at dksX48_samples_6 11 rfl rfl)
theorem dX48_samples_155 : decode cX48_samples 155 = .ok (.getfield 99, 3) := dk_180 0 99 (dk_at dksX48_samples_6 12 rfl rfl)
theorem dX48_samples_158 : decode cX48_samples 158 = .ok (.iconst 4, 1) := dk_7 (dk_at dksX48_samples_6 15 rfl rfl)
theorem dX48_samples_159 : decode cX48_samples 159 = .ok (.laload, 1) := dk_47 (dk_at dksX48_samples_6 16 rfl rfl)
theorem dX48_samples_160 : decode cX48_samples 160 = .ok (.invokevirtual 922, 3) := dk_182 3 154 (dk_at dksX48_samples_6 17 rfl rfl)
theorem dX48_samples_163 : decode cX48_samples 163 = .ok (.i2l, 1) := dk_133 (dk_at dksX48_samples_6 20 rfl rfl)
theorem dX48_samples_164 : decode cX48_samples 164 = .ok (.goto 4, 3) := dk_167 0 4 (dk_at dksX48_samples_6 21 rfl rfl)
theorem dX48_samples_167 : decode cX48_samples 167 = .ok (.lconst 0, 1) := dk_9 (dk_at dksX48_samples_7 0 rfl rfl)
theorem dX48_samples_168 : decode cX48_samples 168 = .ok (.lreturn, 1) := dk_173 (dk_at dksX48_samples_7 1 rfl rfl)
theorem dX48_samples_169 : decode cX48_samples 169 = .ok (.aload_n 0, 1) := dk_42 (dk_at dksX48_samples_7 2 rfl rfl)
theorem dX48_samples_170 : decode cX48_samples 170 = .ok (.ldc_w 925, 3) := dk_19 3 157 (dk_at dksX48_samples_7 3 rfl rfl)
theorem dX48_samples_173 : decode cX48_samples 173 = .ok (.ldc_w 498, 3) := dk_19 1 242 (dk_at dksX48_samples_7 6 rfl rfl)
theorem dX48_samples_176 : decode cX48_samples 176 = .ok (.invokevirtual 263, 3) := dk_182 1 7 (dk_at dksX48_samples_7 9 rfl rfl)
theorem dX48_samples_179 : decode cX48_samples 179 = .ok (.ifCond .eq 43, 3) := dk_153 0 43 (dk_at dksX48_samples_7 12 rfl rfl)
theorem dX48_samples_182 : decode cX48_samples 182 = .ok (.aload_n 0, 1) := dk_42 (dk_at dksX48_samples_7 15 rfl rfl)
theorem dX48_samples_183 : decode cX48_samples 183 = .ok (.getfield 167, 3) := dk_180 0 167 (dk_at dksX48_samples_7 16 rfl rfl)
theorem dX48_samples_186 : decode cX48_samples 186 = .ok (.ifCond .ge 34, 3) := dk_156 0 34 (dk_at dksX48_samples_7 19 rfl rfl)
theorem dX48_samples_189 : decode cX48_samples 189 = .ok (.aload_n 0, 1) := dk_42 (dk_at dksX48_samples_7 22 rfl rfl)
theorem dX48_samples_190 : decode cX48_samples 190 = .ok (.getfield 65, 3) := dk_180 0 65 (dk_at dksX48_samples_8 0 rfl rfl)
theorem dX48_samples_193 : decode cX48_samples 193 = .ok (.aload_n 0, 1) := dk_42 (dk_at dksX48_samples_8 3 rfl rfl)
theorem dX48_samples_194 : decode cX48_samples 194 = .ok (.getfield 99, 3) := dk_180 0 99 (dk_at dksX48_samples_8 4 rfl rfl)
theorem dX48_samples_197 : decode cX48_samples 197 = .ok (.iconst 0, 1) := dk_3 (dk_at dksX48_samples_8 7 rfl rfl)
theorem dX48_samples_198 : decode cX48_samples 198 = .ok (.laload, 1) := dk_47 (dk_at dksX48_samples_8 8 rfl rfl)
theorem dX48_samples_199 : decode cX48_samples 199 = .ok (.l2i, 1) := dk_136 (dk_at dksX48_samples_8 9 rfl rfl)
theorem dX48_samples_200 : decode cX48_samples 200 = .ok (.aload_n 0, 1) := dk_42 (dk_at dksX48_samples_8 10 rfl rfl)
theorem dX48_samples_201 : decode cX48_samples 201 = .ok (.getfield 99, 3) := dk_180 0 99 (dk_at dksX48_samples_8 11 rfl rfl)
theorem dX48_samples_204 : decode cX48_samples 204 = .ok (.iconst 1, 1) := dk_4 (dk_at dksX48_samples_8 14 rfl rfl)
theorem dX48_samples_205 : decode cX48_samples 205 = .ok (.laload, 1) := dk_47 (dk_at dksX48_samples_8 15 rfl rfl)
theorem dX48_samples_206 : decode cX48_samples 206 = .ok (.l2i, 1) := dk_136 (dk_at dksX48_samples_8 16 rfl rfl)
theorem dX48_samples_207 : decode cX48_samples 207 = .ok (.aload_n 0, 1) := dk_42 (dk_at dksX48_samples_8 17 rfl rfl)
theorem dX48_samples_208 : decode cX48_samples 208 = .ok (.getfield 99, 3) := dk_180 0 99 (dk_at dksX48_samples_8 18 rfl rfl)
theorem dX48_samples_211 : decode cX48_samples 211 = .ok (.iconst 2, 1) := dk_5 (dk_at dksX48_samples_8 21 rfl rfl)
theorem dX48_samples_212 : decode cX48_samples 212 = .ok (.laload, 1) := dk_47 (dk_at dksX48_samples_8 22 rfl rfl)
theorem dX48_samples_213 : decode cX48_samples 213 = .ok (.l2i, 1) := dk_136 (dk_at dksX48_samples_8 23 rfl rfl)
theorem dX48_samples_214 : decode cX48_samples 214 = .ok (.invokevirtual 927, 3) := dk_182 3 159 (dk_at dksX48_samples_9 0 rfl rfl)
theorem dX48_samples_217 : decode cX48_samples 217 = .ok (.goto 4, 3) := dk_167 0 4 (dk_at dksX48_samples_9 3 rfl rfl)
theorem dX48_samples_220 : decode cX48_samples 220 = .ok (.lconst 0, 1) := dk_9 (dk_at dksX48_samples_9 6 rfl rfl)
theorem dX48_samples_221 : decode cX48_samples 221 = .ok (.lreturn, 1) := dk_173 (dk_at dksX48_samples_9 7 rfl rfl)
theorem dX48_samples_222 : decode cX48_samples 222 = .ok (.aload_n 0, 1) := dk_42 (dk_at dksX48_samples_9 8 rfl rfl)
theorem dX48_samples_223 : decode cX48_samples 223 = .ok (.ldc_w 929, 3) := dk_19 3 161 (dk_at dksX48_samples_9 9 rfl rfl)
theorem dX48_samples_226 : decode cX48_samples 226 = .ok (.ldc_w 583, 3) := dk_19 2 71 (dk_at dksX48_samples_9 12 rfl rfl)
theorem dX48_samples_229 : decode cX48_samples 229 = .ok (.invokevirtual 263, 3) := dk_182 1 7 (dk_at dksX48_samples_9 15 rfl rfl)
theorem dX48_samples_232 : decode cX48_samples 232 = .ok (.ifCond .eq 29, 3) := dk_153 0 29 (dk_at dksX48_samples_9 18 rfl rfl)
theorem dX48_samples_235 : decode cX48_samples 235 = .ok (.aload_n 0, 1) := dk_42 (dk_at dksX48_samples_9 21 rfl rfl)
theorem dX48_samples_236 : decode cX48_samples 236 = .ok (.getfield 167, 3) := dk_180 0 167 (dk_at dksX48_samples_10 0 rfl rfl)
theorem dX48_samples_239 : decode cX48_samples 239 = .ok (.ifCond .ge 20, 3) := dk_156 0 20 (dk_at dksX48_samples_10 3 rfl rfl)
theorem dX48_samples_242 : decode cX48_samples 242 = .ok (.aload_n 0, 1) := dk_42 (dk_at dksX48_samples_10 6 rfl rfl)
theorem dX48_samples_243 : decode cX48_samples 243 = .ok (.getfield 65, 3) := dk_180 0 65 (dk_at dksX48_samples_10 7 rfl rfl)
theorem dX48_samples_246 : decode cX48_samples 246 = .ok (.aload_n 0, 1) := dk_42 (dk_at dksX48_samples_10 10 rfl rfl)
theorem dX48_samples_247 : decode cX48_samples 247 = .ok (.getfield 99, 3) := dk_180 0 99 (dk_at dksX48_samples_10 11 rfl rfl)
theorem dX48_samples_250 : decode cX48_samples 250 = .ok (.iconst 0, 1) := dk_3 (dk_at dksX48_samples_10 14 rfl rfl)
theorem dX48_samples_251 : decode cX48_samples 251 = .ok (.laload, 1) := dk_47 (dk_at dksX48_samples_10 15 rfl rfl)
theorem dX48_samples_252 : decode cX48_samples 252 = .ok (.invokevirtual 364, 3) := dk_182 1 108 (dk_at dksX48_samples_10 16 rfl rfl)
theorem dX48_samples_255 : decode cX48_samples 255 = .ok (.i2l, 1) := dk_133 (dk_at dksX48_samples_10 19 rfl rfl)
theorem dX48_samples_256 : decode cX48_samples 256 = .ok (.goto 4, 3) := dk_167 0 4 (dk_at dksX48_samples_10 20 rfl rfl)
theorem dX48_samples_259 : decode cX48_samples 259 = .ok (.lconst 0, 1) := dk_9 (dk_at dksX48_samples_10 23 rfl rfl)
theorem dX48_samples_260 : decode cX48_samples 260 = .ok (.lreturn, 1) := dk_173 (dk_at dksX48_samples_11 0 rfl rfl)
theorem dX48_samples_261 : decode cX48_samples 261 = .ok (.aload_n 0, 1) := dk_42 (dk_at dksX48_samples_11 1 rfl rfl)
theorem dX48_samples_262 : decode cX48_samples 262 = .ok (.ldc_w 930, 3) := dk_19 3 162 (dk_at dksX48_samples_11 2 rfl rfl)
theorem dX48_samples_265 : decode cX48_samples 265 = .ok (.ldc_w 451, 3) := dk_19 1 195 (dk_at dksX48_samples_11 5 rfl rfl)
theorem dX48_samples_268 : decode cX48_samples 268 = .ok (.invokevirtual 263, 3) := dk_182 1 7 (dk_at dksX48_samples_11 8 rfl rfl)
theorem dX48_samples_271 : decode cX48_samples 271 = .ok (.ifCond .eq 45, 3) := dk_153 0 45 (dk_at dksX48_samples_11 11 rfl rfl)
theorem dX48_samples_274 : decode cX48_samples 274 = .ok (.aload_n 0, 1) := dk_42 (dk_at dksX48_samples_11 14 rfl rfl)
theorem dX48_samples_275 : decode cX48_samples 275 = .ok (.getfield 167, 3) := dk_180 0 167 (dk_at dksX48_samples_11 15 rfl rfl)
theorem dX48_samples_278 : decode cX48_samples 278 = .ok (.ifCond .ge 36, 3) := dk_156 0 36 (dk_at dksX48_samples_11 18 rfl rfl)
theorem dX48_samples_281 : decode cX48_samples 281 = .ok (.aload_n 0, 1) := dk_42 (dk_at dksX48_samples_11 21 rfl rfl)
theorem dX48_samples_282 : decode cX48_samples 282 = .ok (.getfield 65, 3) := dk_180 0 65 (dk_at dksX48_samples_12 0 rfl rfl)
theorem dX48_samples_285 : decode cX48_samples 285 = .ok (.aload_n 0, 1) := dk_42 (dk_at dksX48_samples_12 3 rfl rfl)
theorem dX48_samples_286 : decode cX48_samples 286 = .ok (.getfield 99, 3) := dk_180 0 99 (dk_at dksX48_samples_12 4 rfl rfl)
theorem dX48_samples_289 : decode cX48_samples 289 = .ok (.iconst 0, 1) := dk_3 (dk_at dksX48_samples_12 7 rfl rfl)
theorem dX48_samples_290 : decode cX48_samples 290 = .ok (.laload, 1) := dk_47 (dk_at dksX48_samples_12 8 rfl rfl)
theorem dX48_samples_291 : decode cX48_samples 291 = .ok (.l2i, 1) := dk_136 (dk_at dksX48_samples_12 9 rfl rfl)
theorem dX48_samples_292 : decode cX48_samples 292 = .ok (.aload_n 0, 1) := dk_42 (dk_at dksX48_samples_12 10 rfl rfl)
theorem dX48_samples_293 : decode cX48_samples 293 = .ok (.getfield 99, 3) := dk_180 0 99 (dk_at dksX48_samples_12 11 rfl rfl)
theorem dX48_samples_296 : decode cX48_samples 296 = .ok (.iconst 1, 1) := dk_4 (dk_at dksX48_samples_12 14 rfl rfl)
theorem dX48_samples_297 : decode cX48_samples 297 = .ok (.laload, 1) := dk_47 (dk_at dksX48_samples_12 15 rfl rfl)
theorem dX48_samples_298 : decode cX48_samples 298 = .ok (.l2i, 1) := dk_136 (dk_at dksX48_samples_12 16 rfl rfl)
theorem dX48_samples_299 : decode cX48_samples 299 = .ok (.aload_n 0, 1) := dk_42 (dk_at dksX48_samples_12 17 rfl rfl)
theorem dX48_samples_300 : decode cX48_samples 300 = .ok (.getfield 99, 3) := dk_180 0 99 (dk_at dksX48_samples_12 18 rfl rfl)
theorem dX48_samples_303 : decode cX48_samples 303 = .ok (.iconst 2, 1) := dk_5 (dk_at dksX48_samples_12 21 rfl rfl)
theorem dX48_samples_304 : decode cX48_samples 304 = .ok (.laload, 1) := dk_47 (dk_at dksX48_samples_12 22 rfl rfl)
theorem dX48_samples_305 : decode cX48_samples 305 = .ok (.invokevirtual 368, 3) := dk_182 1 112 (dk_at dksX48_samples_13 0 rfl rfl)
theorem dX48_samples_308 : decode cX48_samples 308 = .ok (.invokestatic 328, 3) := dk_184 1 72 (dk_at dksX48_samples_13 3 rfl rfl)
theorem dX48_samples_311 : decode cX48_samples 311 = .ok (.goto 4, 3) := dk_167 0 4 (dk_at dksX48_samples_13 6 rfl rfl)
theorem dX48_samples_314 : decode cX48_samples 314 = .ok (.lconst 0, 1) := dk_9 (dk_at dksX48_samples_13 9 rfl rfl)
theorem dX48_samples_315 : decode cX48_samples 315 = .ok (.lreturn, 1) := dk_173 (dk_at dksX48_samples_13 10 rfl rfl)
theorem dX48_samples_316 : decode cX48_samples 316 = .ok (.aload_n 0, 1) := dk_42 (dk_at dksX48_samples_13 11 rfl rfl)
theorem dX48_samples_317 : decode cX48_samples 317 = .ok (.ldc_w 492, 3) := dk_19 1 236 (dk_at dksX48_samples_13 12 rfl rfl)
theorem dX48_samples_320 : decode cX48_samples 320 = .ok (.ldc_w 498, 3) := dk_19 1 242 (dk_at dksX48_samples_13 15 rfl rfl)
theorem dX48_samples_323 : decode cX48_samples 323 = .ok (.invokevirtual 263, 3) := dk_182 1 7 (dk_at dksX48_samples_13 18 rfl rfl)
theorem dX48_samples_326 : decode cX48_samples 326 = .ok (.ifCond .eq 43, 3) := dk_153 0 43 (dk_at dksX48_samples_13 21 rfl rfl)
theorem dX48_samples_329 : decode cX48_samples 329 = .ok (.aload_n 0, 1) := dk_42 (dk_at dksX48_samples_14 0 rfl rfl)
theorem dX48_samples_330 : decode cX48_samples 330 = .ok (.getfield 167, 3) := dk_180 0 167 (dk_at dksX48_samples_14 1 rfl rfl)
theorem dX48_samples_333 : decode cX48_samples 333 = .ok (.ifCond .ge 34, 3) := dk_156 0 34 (dk_at dksX48_samples_14 4 rfl rfl)
theorem dX48_samples_336 : decode cX48_samples 336 = .ok (.aload_n 0, 1) := dk_42 (dk_at dksX48_samples_14 7 rfl rfl)
theorem dX48_samples_337 : decode cX48_samples 337 = .ok (.getfield 65, 3) := dk_180 0 65 (dk_at dksX48_samples_14 8 rfl rfl)
theorem dX48_samples_340 : decode cX48_samples 340 = .ok (.aload_n 0, 1) := dk_42 (dk_at dksX48_samples_14 11 rfl rfl)
theorem dX48_samples_341 : decode cX48_samples 341 = .ok (.getfield 99, 3) := dk_180 0 99 (dk_at dksX48_samples_14 12 rfl rfl)
theorem dX48_samples_344 : decode cX48_samples 344 = .ok (.iconst 0, 1) := dk_3 (dk_at dksX48_samples_14 15 rfl rfl)
theorem dX48_samples_345 : decode cX48_samples 345 = .ok (.laload, 1) := dk_47 (dk_at dksX48_samples_14 16 rfl rfl)
theorem dX48_samples_346 : decode cX48_samples 346 = .ok (.l2i, 1) := dk_136 (dk_at dksX48_samples_14 17 rfl rfl)
theorem dX48_samples_347 : decode cX48_samples 347 = .ok (.aload_n 0, 1) := dk_42 (dk_at dksX48_samples_14 18 rfl rfl)
theorem dX48_samples_348 : decode cX48_samples 348 = .ok (.getfield 99, 3) := dk_180 0 99 (dk_at dksX48_samples_14 19 rfl rfl)
theorem dX48_samples_351 : decode cX48_samples 351 = .ok (.iconst 1, 1) := dk_4 (dk_at dksX48_samples_14 22 rfl rfl)
theorem dX48_samples_352 : decode cX48_samples 352 = .ok (.laload, 1) := dk_47 (dk_at dksX48_samples_14 23 rfl rfl)
theorem dX48_samples_353 : decode cX48_samples 353 = .ok (.l2i, 1) := dk_136 (dk_at dksX48_samples_15 0 rfl rfl)
theorem dX48_samples_354 : decode cX48_samples 354 = .ok (.aload_n 0, 1) := dk_42 (dk_at dksX48_samples_15 1 rfl rfl)
theorem dX48_samples_355 : decode cX48_samples 355 = .ok (.getfield 99, 3) := dk_180 0 99 (dk_at dksX48_samples_15 2 rfl rfl)
theorem dX48_samples_358 : decode cX48_samples 358 = .ok (.iconst 2, 1) := dk_5 (dk_at dksX48_samples_15 5 rfl rfl)
theorem dX48_samples_359 : decode cX48_samples 359 = .ok (.laload, 1) := dk_47 (dk_at dksX48_samples_15 6 rfl rfl)
theorem dX48_samples_360 : decode cX48_samples 360 = .ok (.l2i, 1) := dk_136 (dk_at dksX48_samples_15 7 rfl rfl)
theorem dX48_samples_361 : decode cX48_samples 361 = .ok (.invokevirtual 378, 3) := dk_182 1 122 (dk_at dksX48_samples_15 8 rfl rfl)
theorem dX48_samples_364 : decode cX48_samples 364 = .ok (.goto 4, 3) := dk_167 0 4 (dk_at dksX48_samples_15 11 rfl rfl)
theorem dX48_samples_367 : decode cX48_samples 367 = .ok (.lconst 0, 1) := dk_9 (dk_at dksX48_samples_15 14 rfl rfl)
theorem dX48_samples_368 : decode cX48_samples 368 = .ok (.lreturn, 1) := dk_173 (dk_at dksX48_samples_15 15 rfl rfl)
theorem dX48_samples_369 : decode cX48_samples 369 = .ok (.aload_n 0, 1) := dk_42 (dk_at dksX48_samples_15 16 rfl rfl)
theorem dX48_samples_370 : decode cX48_samples 370 = .ok (.ldc_w 931, 3) := dk_19 3 163 (dk_at dksX48_samples_15 17 rfl rfl)
theorem dX48_samples_373 : decode cX48_samples 373 = .ok (.ldc_w 278, 3) := dk_19 1 22 (dk_at dksX48_samples_15 20 rfl rfl)
theorem dX48_samples_376 : decode cX48_samples 376 = .ok (.invokevirtual 263, 3) := dk_182 1 7 (dk_at dksX48_samples_16 0 rfl rfl)
theorem dX48_samples_379 : decode cX48_samples 379 = .ok (.ifCond .eq 30, 3) := dk_153 0 30 (dk_at dksX48_samples_16 3 rfl rfl)
theorem dX48_samples_382 : decode cX48_samples 382 = .ok (.aload_n 0, 1) := dk_42 (dk_at dksX48_samples_16 6 rfl rfl)
theorem dX48_samples_383 : decode cX48_samples 383 = .ok (.getfield 167, 3) := dk_180 0 167 (dk_at dksX48_samples_16 7 rfl rfl)
theorem dX48_samples_386 : decode cX48_samples 386 = .ok (.ifCond .ge 21, 3) := dk_156 0 21 (dk_at dksX48_samples_16 10 rfl rfl)
theorem dX48_samples_389 : decode cX48_samples 389 = .ok (.aload_n 0, 1) := dk_42 (dk_at dksX48_samples_16 13 rfl rfl)
theorem dX48_samples_390 : decode cX48_samples 390 = .ok (.getfield 65, 3) := dk_180 0 65 (dk_at dksX48_samples_16 14 rfl rfl)
theorem dX48_samples_393 : decode cX48_samples 393 = .ok (.aload_n 0, 1) := dk_42 (dk_at dksX48_samples_16 17 rfl rfl)
theorem dX48_samples_394 : decode cX48_samples 394 = .ok (.getfield 99, 3) := dk_180 0 99 (dk_at dksX48_samples_16 18 rfl rfl)
theorem dX48_samples_397 : decode cX48_samples 397 = .ok (.iconst 0, 1) := dk_3 (dk_at dksX48_samples_16 21 rfl rfl)
theorem dX48_samples_398 : decode cX48_samples 398 = .ok (.laload, 1) := dk_47 (dk_at dksX48_samples_16 22 rfl rfl)
theorem dX48_samples_399 : decode cX48_samples 399 = .ok (.l2i, 1) := dk_136 (dk_at dksX48_samples_16 23 rfl rfl)
theorem dX48_samples_400 : decode cX48_samples 400 = .ok (.invokevirtual 933, 3) := dk_182 3 165 (dk_at dksX48_samples_17 0 rfl rfl)
theorem dX48_samples_403 : decode cX48_samples 403 = .ok (.i2l, 1) := dk_133 (dk_at dksX48_samples_17 3 rfl rfl)
theorem dX48_samples_404 : decode cX48_samples 404 = .ok (.goto 4, 3) := dk_167 0 4 (dk_at dksX48_samples_17 4 rfl rfl)
theorem dX48_samples_407 : decode cX48_samples 407 = .ok (.lconst 0, 1) := dk_9 (dk_at dksX48_samples_17 7 rfl rfl)
theorem dX48_samples_408 : decode cX48_samples 408 = .ok (.lreturn, 1) := dk_173 (dk_at dksX48_samples_17 8 rfl rfl)
theorem dX48_samples_409 : decode cX48_samples 409 = .ok (.aload_n 0, 1) := dk_42 (dk_at dksX48_samples_17 9 rfl rfl)
theorem dX48_samples_410 : decode cX48_samples 410 = .ok (.ldc_w 750, 3) := dk_19 2 238 (dk_at dksX48_samples_17 10 rfl rfl)
theorem dX48_samples_413 : decode cX48_samples 413 = .ok (.ldc_w 731, 3) := dk_19 2 219 (dk_at dksX48_samples_17 13 rfl rfl)
theorem dX48_samples_416 : decode cX48_samples 416 = .ok (.invokevirtual 263, 3) := dk_182 1 7 (dk_at dksX48_samples_17 16 rfl rfl)
theorem dX48_samples_419 : decode cX48_samples 419 = .ok (.ifCond .eq 43, 3) := dk_153 0 43 (dk_at dksX48_samples_17 19 rfl rfl)
theorem dX48_samples_422 : decode cX48_samples 422 = .ok (.aload_n 0, 1) := dk_42 (dk_at dksX48_samples_17 22 rfl rfl)
theorem dX48_samples_423 : decode cX48_samples 423 = .ok (.getfield 167, 3) := dk_180 0 167 (dk_at dksX48_samples_18 0 rfl rfl)
theorem dX48_samples_426 : decode cX48_samples 426 = .ok (.ifCond .ge 34, 3) := dk_156 0 34 (dk_at dksX48_samples_18 3 rfl rfl)
theorem dX48_samples_429 : decode cX48_samples 429 = .ok (.aload_n 0, 1) := dk_42 (dk_at dksX48_samples_18 6 rfl rfl)
theorem dX48_samples_430 : decode cX48_samples 430 = .ok (.getfield 65, 3) := dk_180 0 65 (dk_at dksX48_samples_18 7 rfl rfl)
theorem dX48_samples_433 : decode cX48_samples 433 = .ok (.aload_n 0, 1) := dk_42 (dk_at dksX48_samples_18 10 rfl rfl)
theorem dX48_samples_434 : decode cX48_samples 434 = .ok (.getfield 99, 3) := dk_180 0 99 (dk_at dksX48_samples_18 11 rfl rfl)
theorem dX48_samples_437 : decode cX48_samples 437 = .ok (.iconst 0, 1) := dk_3 (dk_at dksX48_samples_18 14 rfl rfl)
theorem dX48_samples_438 : decode cX48_samples 438 = .ok (.laload, 1) := dk_47 (dk_at dksX48_samples_18 15 rfl rfl)
theorem dX48_samples_439 : decode cX48_samples 439 = .ok (.aload_n 0, 1) := dk_42 (dk_at dksX48_samples_18 16 rfl rfl)
theorem dX48_samples_440 : decode cX48_samples 440 = .ok (.getfield 99, 3) := dk_180 0 99 (dk_at dksX48_samples_18 17 rfl rfl)
theorem dX48_samples_443 : decode cX48_samples 443 = .ok (.iconst 1, 1) := dk_4 (dk_at dksX48_samples_18 20 rfl rfl)
theorem dX48_samples_444 : decode cX48_samples 444 = .ok (.laload, 1) := dk_47 (dk_at dksX48_samples_18 21 rfl rfl)
theorem dX48_samples_445 : decode cX48_samples 445 = .ok (.aload_n 0, 1) := dk_42 (dk_at dksX48_samples_18 22 rfl rfl)
theorem dX48_samples_446 : decode cX48_samples 446 = .ok (.getfield 99, 3) := dk_180 0 99 (dk_at dksX48_samples_19 0 rfl rfl)
theorem dX48_samples_449 : decode cX48_samples 449 = .ok (.iconst 2, 1) := dk_5 (dk_at dksX48_samples_19 3 rfl rfl)
theorem dX48_samples_450 : decode cX48_samples 450 = .ok (.laload, 1) := dk_47 (dk_at dksX48_samples_19 4 rfl rfl)
theorem dX48_samples_451 : decode cX48_samples 451 = .ok (.invokevirtual 935, 3) := dk_182 3 167 (dk_at dksX48_samples_19 5 rfl rfl)
theorem dX48_samples_454 : decode cX48_samples 454 = .ok (.invokestatic 328, 3) := dk_184 1 72 (dk_at dksX48_samples_19 8 rfl rfl)
theorem dX48_samples_457 : decode cX48_samples 457 = .ok (.goto 4, 3) := dk_167 0 4 (dk_at dksX48_samples_19 11 rfl rfl)
theorem dX48_samples_460 : decode cX48_samples 460 = .ok (.lconst 0, 1) := dk_9 (dk_at dksX48_samples_19 14 rfl rfl)
theorem dX48_samples_461 : decode cX48_samples 461 = .ok (.lreturn, 1) := dk_173 (dk_at dksX48_samples_19 15 rfl rfl)
theorem dX48_samples_462 : decode cX48_samples 462 = .ok (.aload_n 0, 1) := dk_42 (dk_at dksX48_samples_19 16 rfl rfl)
theorem dX48_samples_463 : decode cX48_samples 463 = .ok (.ldc_w 938, 3) := dk_19 3 170 (dk_at dksX48_samples_19 17 rfl rfl)
theorem dX48_samples_466 : decode cX48_samples 466 = .ok (.ldc_w 278, 3) := dk_19 1 22 (dk_at dksX48_samples_19 20 rfl rfl)
theorem dX48_samples_469 : decode cX48_samples 469 = .ok (.invokevirtual 263, 3) := dk_182 1 7 (dk_at dksX48_samples_20 0 rfl rfl)
theorem dX48_samples_472 : decode cX48_samples 472 = .ok (.ifCond .eq 29, 3) := dk_153 0 29 (dk_at dksX48_samples_20 3 rfl rfl)
theorem dX48_samples_475 : decode cX48_samples 475 = .ok (.aload_n 0, 1) := dk_42 (dk_at dksX48_samples_20 6 rfl rfl)
theorem dX48_samples_476 : decode cX48_samples 476 = .ok (.getfield 167, 3) := dk_180 0 167 (dk_at dksX48_samples_20 7 rfl rfl)
theorem dX48_samples_479 : decode cX48_samples 479 = .ok (.ifCond .ge 20, 3) := dk_156 0 20 (dk_at dksX48_samples_20 10 rfl rfl)
theorem dX48_samples_482 : decode cX48_samples 482 = .ok (.aload_n 0, 1) := dk_42 (dk_at dksX48_samples_20 13 rfl rfl)
theorem dX48_samples_483 : decode cX48_samples 483 = .ok (.getfield 65, 3) := dk_180 0 65 (dk_at dksX48_samples_20 14 rfl rfl)
theorem dX48_samples_486 : decode cX48_samples 486 = .ok (.aload_n 0, 1) := dk_42 (dk_at dksX48_samples_20 17 rfl rfl)
theorem dX48_samples_487 : decode cX48_samples 487 = .ok (.getfield 99, 3) := dk_180 0 99 (dk_at dksX48_samples_20 18 rfl rfl)
theorem dX48_samples_490 : decode cX48_samples 490 = .ok (.iconst 0, 1) := dk_3 (dk_at dksX48_samples_20 21 rfl rfl)
theorem dX48_samples_491 : decode cX48_samples 491 = .ok (.laload, 1) := dk_47 (dk_at dksX48_samples_20 22 rfl rfl)
theorem dX48_samples_492 : decode cX48_samples 492 = .ok (.l2i, 1) := dk_136 (dk_at dksX48_samples_20 23 rfl rfl)
theorem dX48_samples_493 : decode cX48_samples 493 = .ok (.invokevirtual 371, 3) := dk_182 1 115 (dk_at dksX48_samples_21 0 rfl rfl)
theorem dX48_samples_496 : decode cX48_samples 496 = .ok (.goto 4, 3) := dk_167 0 4 (dk_at dksX48_samples_21 3 rfl rfl)
theorem dX48_samples_499 : decode cX48_samples 499 = .ok (.lconst 0, 1) := dk_9 (dk_at dksX48_samples_21 6 rfl rfl)
theorem dX48_samples_500 : decode cX48_samples 500 = .ok (.lreturn, 1) := dk_173 (dk_at dksX48_samples_21 7 rfl rfl)
theorem dX48_samples_501 : decode cX48_samples 501 = .ok (.aload_n 0, 1) := dk_42 (dk_at dksX48_samples_21 8 rfl rfl)
theorem dX48_samples_502 : decode cX48_samples 502 = .ok (.ldc_w 939, 3) := dk_19 3 171 (dk_at dksX48_samples_21 9 rfl rfl)
theorem dX48_samples_505 : decode cX48_samples 505 = .ok (.ldc_w 547, 3) := dk_19 2 35 (dk_at dksX48_samples_21 12 rfl rfl)
theorem dX48_samples_508 : decode cX48_samples 508 = .ok (.invokevirtual 263, 3) := dk_182 1 7 (dk_at dksX48_samples_21 15 rfl rfl)
theorem dX48_samples_511 : decode cX48_samples 511 = .ok (.ifCond .eq 42, 3) := dk_153 0 42 (dk_at dksX48_samples_21 18 rfl rfl)
theorem dX48_samples_514 : decode cX48_samples 514 = .ok (.aload_n 0, 1) := dk_42 (dk_at dksX48_samples_21 21 rfl rfl)
theorem dX48_samples_515 : decode cX48_samples 515 = .ok (.getfield 167, 3) := dk_180 0 167 (dk_at dksX48_samples_22 0 rfl rfl)
theorem dX48_samples_518 : decode cX48_samples 518 = .ok (.ifCond .ge 33, 3) := dk_156 0 33 (dk_at dksX48_samples_22 3 rfl rfl)
theorem dX48_samples_521 : decode cX48_samples 521 = .ok (.aload_n 0, 1) := dk_42 (dk_at dksX48_samples_22 6 rfl rfl)
theorem dX48_samples_522 : decode cX48_samples 522 = .ok (.getfield 65, 3) := dk_180 0 65 (dk_at dksX48_samples_22 7 rfl rfl)
theorem dX48_samples_525 : decode cX48_samples 525 = .ok (.aload_n 0, 1) := dk_42 (dk_at dksX48_samples_22 10 rfl rfl)
theorem dX48_samples_526 : decode cX48_samples 526 = .ok (.getfield 99, 3) := dk_180 0 99 (dk_at dksX48_samples_22 11 rfl rfl)
theorem dX48_samples_529 : decode cX48_samples 529 = .ok (.iconst 0, 1) := dk_3 (dk_at dksX48_samples_22 14 rfl rfl)
theorem dX48_samples_530 : decode cX48_samples 530 = .ok (.laload, 1) := dk_47 (dk_at dksX48_samples_22 15 rfl rfl)
theorem dX48_samples_531 : decode cX48_samples 531 = .ok (.l2i, 1) := dk_136 (dk_at dksX48_samples_22 16 rfl rfl)
theorem dX48_samples_532 : decode cX48_samples 532 = .ok (.aload_n 0, 1) := dk_42 (dk_at dksX48_samples_22 17 rfl rfl)
theorem dX48_samples_533 : decode cX48_samples 533 = .ok (.getfield 99, 3) := dk_180 0 99 (dk_at dksX48_samples_22 18 rfl rfl)
theorem dX48_samples_536 : decode cX48_samples 536 = .ok (.iconst 1, 1) := dk_4 (dk_at dksX48_samples_22 21 rfl rfl)
theorem dX48_samples_537 : decode cX48_samples 537 = .ok (.laload, 1) := dk_47 (dk_at dksX48_samples_22 22 rfl rfl)
theorem dX48_samples_538 : decode cX48_samples 538 = .ok (.aload_n 0, 1) := dk_42 (dk_at dksX48_samples_22 23 rfl rfl)
theorem dX48_samples_539 : decode cX48_samples 539 = .ok (.getfield 99, 3) := dk_180 0 99 (dk_at dksX48_samples_23 0 rfl rfl)
theorem dX48_samples_542 : decode cX48_samples 542 = .ok (.iconst 2, 1) := dk_5 (dk_at dksX48_samples_23 3 rfl rfl)
theorem dX48_samples_543 : decode cX48_samples 543 = .ok (.laload, 1) := dk_47 (dk_at dksX48_samples_23 4 rfl rfl)
theorem dX48_samples_544 : decode cX48_samples 544 = .ok (.invokevirtual 941, 3) := dk_182 3 173 (dk_at dksX48_samples_23 5 rfl rfl)
theorem dX48_samples_547 : decode cX48_samples 547 = .ok (.i2l, 1) := dk_133 (dk_at dksX48_samples_23 8 rfl rfl)
theorem dX48_samples_548 : decode cX48_samples 548 = .ok (.goto 4, 3) := dk_167 0 4 (dk_at dksX48_samples_23 9 rfl rfl)
theorem dX48_samples_551 : decode cX48_samples 551 = .ok (.lconst 0, 1) := dk_9 (dk_at dksX48_samples_23 12 rfl rfl)
theorem dX48_samples_552 : decode cX48_samples 552 = .ok (.lreturn, 1) := dk_173 (dk_at dksX48_samples_23 13 rfl rfl)
theorem dX48_samples_553 : decode cX48_samples 553 = .ok (.aload_n 0, 1) := dk_42 (dk_at dksX48_samples_23 14 rfl rfl)
theorem dX48_samples_554 : decode cX48_samples 554 = .ok (.ldc_w 729, 3) := dk_19 2 217 (dk_at dksX48_samples_23 15 rfl rfl)
theorem dX48_samples_557 : decode cX48_samples 557 = .ok (.ldc_w 292, 3) := dk_19 1 36 (dk_at dksX48_samples_23 18 rfl rfl)
theorem dX48_samples_560 : decode cX48_samples 560 = .ok (.invokevirtual 263, 3) := dk_182 1 7 (dk_at dksX48_samples_23 21 rfl rfl)
theorem dX48_samples_563 : decode cX48_samples 563 = .ok (.ifCond .eq 37, 3) := dk_153 0 37 (dk_at dksX48_samples_24 0 rfl rfl)
theorem dX48_samples_566 : decode cX48_samples 566 = .ok (.aload_n 0, 1) := dk_42 (dk_at dksX48_samples_24 3 rfl rfl)
theorem dX48_samples_567 : decode cX48_samples 567 = .ok (.getfield 167, 3) := dk_180 0 167 (dk_at dksX48_samples_24 4 rfl rfl)
theorem dX48_samples_570 : decode cX48_samples 570 = .ok (.ifCond .ge 28, 3) := dk_156 0 28 (dk_at dksX48_samples_24 7 rfl rfl)
theorem dX48_samples_573 : decode cX48_samples 573 = .ok (.aload_n 0, 1) := dk_42 (dk_at dksX48_samples_24 10 rfl rfl)
theorem dX48_samples_574 : decode cX48_samples 574 = .ok (.getfield 65, 3) := dk_180 0 65 (dk_at dksX48_samples_24 11 rfl rfl)
theorem dX48_samples_577 : decode cX48_samples 577 = .ok (.aload_n 0, 1) := dk_42 (dk_at dksX48_samples_24 14 rfl rfl)
theorem dX48_samples_578 : decode cX48_samples 578 = .ok (.getfield 99, 3) := dk_180 0 99 (dk_at dksX48_samples_24 15 rfl rfl)
theorem dX48_samples_581 : decode cX48_samples 581 = .ok (.iconst 0, 1) := dk_3 (dk_at dksX48_samples_24 18 rfl rfl)
theorem dX48_samples_582 : decode cX48_samples 582 = .ok (.laload, 1) := dk_47 (dk_at dksX48_samples_24 19 rfl rfl)
theorem dX48_samples_583 : decode cX48_samples 583 = .ok (.l2i, 1) := dk_136 (dk_at dksX48_samples_24 20 rfl rfl)
theorem dX48_samples_584 : decode cX48_samples 584 = .ok (.aload_n 0, 1) := dk_42 (dk_at dksX48_samples_24 21 rfl rfl)
theorem dX48_samples_585 : decode cX48_samples 585 = .ok (.getfield 99, 3) := dk_180 0 99 (dk_at dksX48_samples_25 0 rfl rfl)
theorem dX48_samples_588 : decode cX48_samples 588 = .ok (.iconst 1, 1) := dk_4 (dk_at dksX48_samples_25 3 rfl rfl)
theorem dX48_samples_589 : decode cX48_samples 589 = .ok (.laload, 1) := dk_47 (dk_at dksX48_samples_25 4 rfl rfl)
theorem dX48_samples_590 : decode cX48_samples 590 = .ok (.l2i, 1) := dk_136 (dk_at dksX48_samples_25 5 rfl rfl)
theorem dX48_samples_591 : decode cX48_samples 591 = .ok (.invokevirtual 943, 3) := dk_182 3 175 (dk_at dksX48_samples_25 6 rfl rfl)
theorem dX48_samples_594 : decode cX48_samples 594 = .ok (.i2l, 1) := dk_133 (dk_at dksX48_samples_25 9 rfl rfl)
theorem dX48_samples_595 : decode cX48_samples 595 = .ok (.goto 4, 3) := dk_167 0 4 (dk_at dksX48_samples_25 10 rfl rfl)
theorem dX48_samples_598 : decode cX48_samples 598 = .ok (.lconst 0, 1) := dk_9 (dk_at dksX48_samples_25 13 rfl rfl)
theorem dX48_samples_599 : decode cX48_samples 599 = .ok (.lreturn, 1) := dk_173 (dk_at dksX48_samples_25 14 rfl rfl)
theorem dX48_samples_600 : decode cX48_samples 600 = .ok (.aload_n 0, 1) := dk_42 (dk_at dksX48_samples_25 15 rfl rfl)
theorem dX48_samples_601 : decode cX48_samples 601 = .ok (.ldc_w 945, 3) := dk_19 3 177 (dk_at dksX48_samples_25 16 rfl rfl)
theorem dX48_samples_604 : decode cX48_samples 604 = .ok (.ldc_w 547, 3) := dk_19 2 35 (dk_at dksX48_samples_25 19 rfl rfl)
theorem dX48_samples_607 : decode cX48_samples 607 = .ok (.invokevirtual 263, 3) := dk_182 1 7 (dk_at dksX48_samples_26 0 rfl rfl)
theorem dX48_samples_610 : decode cX48_samples 610 = .ok (.ifCond .eq 44, 3) := dk_153 0 44 (dk_at dksX48_samples_26 3 rfl rfl)
theorem dX48_samples_613 : decode cX48_samples 613 = .ok (.aload_n 0, 1) := dk_42 (dk_at dksX48_samples_26 6 rfl rfl)
theorem dX48_samples_614 : decode cX48_samples 614 = .ok (.getfield 167, 3) := dk_180 0 167 (dk_at dksX48_samples_26 7 rfl rfl)
theorem dX48_samples_617 : decode cX48_samples 617 = .ok (.ifCond .ge 35, 3) := dk_156 0 35 (dk_at dksX48_samples_26 10 rfl rfl)
theorem dX48_samples_620 : decode cX48_samples 620 = .ok (.aload_n 0, 1) := dk_42 (dk_at dksX48_samples_26 13 rfl rfl)
theorem dX48_samples_621 : decode cX48_samples 621 = .ok (.getfield 65, 3) := dk_180 0 65 (dk_at dksX48_samples_26 14 rfl rfl)
theorem dX48_samples_624 : decode cX48_samples 624 = .ok (.aload_n 0, 1) := dk_42 (dk_at dksX48_samples_26 17 rfl rfl)
theorem dX48_samples_625 : decode cX48_samples 625 = .ok (.getfield 99, 3) := dk_180 0 99 (dk_at dksX48_samples_26 18 rfl rfl)
theorem dX48_samples_628 : decode cX48_samples 628 = .ok (.iconst 0, 1) := dk_3 (dk_at dksX48_samples_26 21 rfl rfl)
theorem dX48_samples_629 : decode cX48_samples 629 = .ok (.laload, 1) := dk_47 (dk_at dksX48_samples_26 22 rfl rfl)
theorem dX48_samples_630 : decode cX48_samples 630 = .ok (.l2i, 1) := dk_136 (dk_at dksX48_samples_26 23 rfl rfl)
theorem dX48_samples_631 : decode cX48_samples 631 = .ok (.aload_n 0, 1) := dk_42 (dk_at dksX48_samples_27 0 rfl rfl)
theorem dX48_samples_632 : decode cX48_samples 632 = .ok (.getfield 99, 3) := dk_180 0 99 (dk_at dksX48_samples_27 1 rfl rfl)
theorem dX48_samples_635 : decode cX48_samples 635 = .ok (.iconst 1, 1) := dk_4 (dk_at dksX48_samples_27 4 rfl rfl)
theorem dX48_samples_636 : decode cX48_samples 636 = .ok (.laload, 1) := dk_47 (dk_at dksX48_samples_27 5 rfl rfl)
theorem dX48_samples_637 : decode cX48_samples 637 = .ok (.aload_n 0, 1) := dk_42 (dk_at dksX48_samples_27 6 rfl rfl)
theorem dX48_samples_638 : decode cX48_samples 638 = .ok (.getfield 99, 3) := dk_180 0 99 (dk_at dksX48_samples_27 7 rfl rfl)
theorem dX48_samples_641 : decode cX48_samples 641 = .ok (.iconst 2, 1) := dk_5 (dk_at dksX48_samples_27 10 rfl rfl)
theorem dX48_samples_642 : decode cX48_samples 642 = .ok (.laload, 1) := dk_47 (dk_at dksX48_samples_27 11 rfl rfl)
theorem dX48_samples_643 : decode cX48_samples 643 = .ok (.invokevirtual 947, 3) := dk_182 3 179 (dk_at dksX48_samples_27 12 rfl rfl)
theorem dX48_samples_646 : decode cX48_samples 646 = .ok (.invokestatic 328, 3) := dk_184 1 72 (dk_at dksX48_samples_27 15 rfl rfl)
theorem dX48_samples_649 : decode cX48_samples 649 = .ok (.goto 4, 3) := dk_167 0 4 (dk_at dksX48_samples_27 18 rfl rfl)
theorem dX48_samples_652 : decode cX48_samples 652 = .ok (.lconst 0, 1) := dk_9 (dk_at dksX48_samples_27 21 rfl rfl)
theorem dX48_samples_653 : decode cX48_samples 653 = .ok (.lreturn, 1) := dk_173 (dk_at dksX48_samples_27 22 rfl rfl)
theorem dX48_samples_654 : decode cX48_samples 654 = .ok (.aload_n 0, 1) := dk_42 (dk_at dksX48_samples_27 23 rfl rfl)
theorem dX48_samples_655 : decode cX48_samples 655 = .ok (.ldc_w 949, 3) := dk_19 3 181 (dk_at dksX48_samples_28 0 rfl rfl)
theorem dX48_samples_658 : decode cX48_samples 658 = .ok (.ldc_w 292, 3) := dk_19 1 36 (dk_at dksX48_samples_28 3 rfl rfl)
theorem dX48_samples_661 : decode cX48_samples 661 = .ok (.invokevirtual 263, 3) := dk_182 1 7 (dk_at dksX48_samples_28 6 rfl rfl)
theorem dX48_samples_664 : decode cX48_samples 664 = .ok (.ifCond .eq 36, 3) := dk_153 0 36 (dk_at dksX48_samples_28 9 rfl rfl)
theorem dX48_samples_667 : decode cX48_samples 667 = .ok (.aload_n 0, 1) := dk_42 (dk_at dksX48_samples_28 12 rfl rfl)
theorem dX48_samples_668 : decode cX48_samples 668 = .ok (.getfield 167, 3) := dk_180 0 167 (dk_at dksX48_samples_28 13 rfl rfl)
theorem dX48_samples_671 : decode cX48_samples 671 = .ok (.ifCond .ge 27, 3) := dk_156 0 27 (dk_at dksX48_samples_28 16 rfl rfl)
theorem dX48_samples_674 : decode cX48_samples 674 = .ok (.aload_n 0, 1) := dk_42 (dk_at dksX48_samples_28 19 rfl rfl)
theorem dX48_samples_675 : decode cX48_samples 675 = .ok (.getfield 65, 3) := dk_180 0 65 (dk_at dksX48_samples_28 20 rfl rfl)
theorem dX48_samples_678 : decode cX48_samples 678 = .ok (.aload_n 0, 1) := dk_42 (dk_at dksX48_samples_28 23 rfl rfl)
theorem dX48_samples_679 : decode cX48_samples 679 = .ok (.getfield 99, 3) := dk_180 0 99 (dk_at dksX48_samples_29 0 rfl rfl)
theorem dX48_samples_682 : decode cX48_samples 682 = .ok (.iconst 0, 1) := dk_3 (dk_at dksX48_samples_29 3 rfl rfl)
theorem dX48_samples_683 : decode cX48_samples 683 = .ok (.laload, 1) := dk_47 (dk_at dksX48_samples_29 4 rfl rfl)
theorem dX48_samples_684 : decode cX48_samples 684 = .ok (.l2i, 1) := dk_136 (dk_at dksX48_samples_29 5 rfl rfl)
theorem dX48_samples_685 : decode cX48_samples 685 = .ok (.aload_n 0, 1) := dk_42 (dk_at dksX48_samples_29 6 rfl rfl)
theorem dX48_samples_686 : decode cX48_samples 686 = .ok (.getfield 99, 3) := dk_180 0 99 (dk_at dksX48_samples_29 7 rfl rfl)
theorem dX48_samples_689 : decode cX48_samples 689 = .ok (.iconst 1, 1) := dk_4 (dk_at dksX48_samples_29 10 rfl rfl)
theorem dX48_samples_690 : decode cX48_samples 690 = .ok (.laload, 1) := dk_47 (dk_at dksX48_samples_29 11 rfl rfl)
theorem dX48_samples_691 : decode cX48_samples 691 = .ok (.l2i, 1) := dk_136 (dk_at dksX48_samples_29 12 rfl rfl)
theorem dX48_samples_692 : decode cX48_samples 692 = .ok (.invokevirtual 951, 3) := dk_182 3 183 (dk_at dksX48_samples_29 13 rfl rfl)
theorem dX48_samples_695 : decode cX48_samples 695 = .ok (.goto 4, 3) := dk_167 0 4 (dk_at dksX48_samples_29 16 rfl rfl)
theorem dX48_samples_698 : decode cX48_samples 698 = .ok (.lconst 0, 1) := dk_9 (dk_at dksX48_samples_29 19 rfl rfl)
theorem dX48_samples_699 : decode cX48_samples 699 = .ok (.lreturn, 1) := dk_173 (dk_at dksX48_samples_29 20 rfl rfl)
theorem dX48_samples_700 : decode cX48_samples 700 = .ok (.aload_n 0, 1) := dk_42 (dk_at dksX48_samples_29 21 rfl rfl)
theorem dX48_samples_701 : decode cX48_samples 701 = .ok (.ldc_w 953, 3) := dk_19 3 185 (dk_at dksX48_samples_30 0 rfl rfl)
theorem dX48_samples_704 : decode cX48_samples 704 = .ok (.ldc_w 278, 3) := dk_19 1 22 (dk_at dksX48_samples_30 3 rfl rfl)
theorem dX48_samples_707 : decode cX48_samples 707 = .ok (.invokevirtual 263, 3) := dk_182 1 7 (dk_at dksX48_samples_30 6 rfl rfl)
theorem dX48_samples_710 : decode cX48_samples 710 = .ok (.ifCond .eq 30, 3) := dk_153 0 30 (dk_at dksX48_samples_30 9 rfl rfl)
theorem dX48_samples_713 : decode cX48_samples 713 = .ok (.aload_n 0, 1) := dk_42 (dk_at dksX48_samples_30 12 rfl rfl)
theorem dX48_samples_714 : decode cX48_samples 714 = .ok (.getfield 167, 3) := dk_180 0 167 (dk_at dksX48_samples_30 13 rfl rfl)
theorem dX48_samples_717 : decode cX48_samples 717 = .ok (.ifCond .ge 21, 3) := dk_156 0 21 (dk_at dksX48_samples_30 16 rfl rfl)
theorem dX48_samples_720 : decode cX48_samples 720 = .ok (.aload_n 0, 1) := dk_42 (dk_at dksX48_samples_30 19 rfl rfl)
theorem dX48_samples_721 : decode cX48_samples 721 = .ok (.getfield 65, 3) := dk_180 0 65 (dk_at dksX48_samples_30 20 rfl rfl)
theorem dX48_samples_724 : decode cX48_samples 724 = .ok (.aload_n 0, 1) := dk_42 (dk_at dksX48_samples_30 23 rfl rfl)
theorem dX48_samples_725 : decode cX48_samples 725 = .ok (.getfield 99, 3) := dk_180 0 99 (dk_at dksX48_samples_31 0 rfl rfl)
theorem dX48_samples_728 : decode cX48_samples 728 = .ok (.iconst 0, 1) := dk_3 (dk_at dksX48_samples_31 3 rfl rfl)
theorem dX48_samples_729 : decode cX48_samples 729 = .ok (.laload, 1) := dk_47 (dk_at dksX48_samples_31 4 rfl rfl)
theorem dX48_samples_730 : decode cX48_samples 730 = .ok (.l2i, 1) := dk_136 (dk_at dksX48_samples_31 5 rfl rfl)
theorem dX48_samples_731 : decode cX48_samples 731 = .ok (.invokevirtual 955, 3) := dk_182 3 187 (dk_at dksX48_samples_31 6 rfl rfl)
theorem dX48_samples_734 : decode cX48_samples 734 = .ok (.i2l, 1) := dk_133 (dk_at dksX48_samples_31 9 rfl rfl)
theorem dX48_samples_735 : decode cX48_samples 735 = .ok (.goto 4, 3) := dk_167 0 4 (dk_at dksX48_samples_31 10 rfl rfl)
theorem dX48_samples_738 : decode cX48_samples 738 = .ok (.lconst 0, 1) := dk_9 (dk_at dksX48_samples_31 13 rfl rfl)
theorem dX48_samples_739 : decode cX48_samples 739 = .ok (.lreturn, 1) := dk_173 (dk_at dksX48_samples_31 14 rfl rfl)
theorem dX48_samples_740 : decode cX48_samples 740 = .ok (.aload_n 0, 1) := dk_42 (dk_at dksX48_samples_31 15 rfl rfl)
theorem dX48_samples_741 : decode cX48_samples 741 = .ok (.invokevirtual 332, 3) := dk_182 1 76 (dk_at dksX48_samples_31 16 rfl rfl)
theorem dX48_samples_744 : decode cX48_samples 744 = .ok (.lreturn, 1) := dk_173 (dk_at dksX48_samples_31 19 rfl rfl)
abbrev cX48_deposits : ByteArray := prog_56_method_46_code
def yX48_deposits : MethodName := ⟨RX48, "deposits", "()J"⟩
def dkwX48_deposits_42 : List UInt8 := [180, 0, 99, 3, 47, 136, 182, 4, 7, 133, 167, 0, 4, 9, 173, 42, 182, 1, 76, 173]
abbrev dktX48_deposits_42 : List UInt8 := dkwX48_deposits_42 ++ []
def dkwX48_deposits_41 : List UInt8 := [19, 4, 5, 19, 1, 22, 182, 1, 7, 153, 0, 30, 42, 180, 0, 167, 156, 0, 21, 42, 180, 0, 72, 42]
abbrev dktX48_deposits_41 : List UInt8 := dkwX48_deposits_41 ++ dktX48_deposits_42
def dkwX48_deposits_40 : List UInt8 := [156, 0, 20, 42, 180, 0, 72, 42, 180, 0, 99, 3, 47, 136, 182, 4, 3, 167, 0, 4, 9, 173, 42]
abbrev dktX48_deposits_40 : List UInt8 := dkwX48_deposits_40 ++ dktX48_deposits_41
def dkwX48_deposits_39 : List UInt8 := [167, 0, 4, 9, 173, 42, 19, 4, 1, 19, 1, 22, 182, 1, 7, 153, 0, 29, 42, 180, 0, 167]
abbrev dktX48_deposits_39 : List UInt8 := dkwX48_deposits_39 ++ dktX48_deposits_40
def dkwX48_deposits_38 : List UInt8 := [42, 180, 0, 167, 156, 0, 21, 42, 180, 0, 72, 42, 180, 0, 99, 3, 47, 136, 182, 3, 255, 133]
abbrev dktX48_deposits_38 : List UInt8 := dkwX48_deposits_38 ++ dktX48_deposits_39
def dkwX48_deposits_37 : List UInt8 := [3, 47, 136, 182, 3, 253, 167, 0, 4, 9, 173, 42, 19, 2, 80, 19, 1, 22, 182, 1, 7, 153, 0, 30]
abbrev dktX48_deposits_37 : List UInt8 := dkwX48_deposits_37 ++ dktX48_deposits_38
def dkwX48_deposits_36 : List UInt8 := [19, 1, 22, 182, 1, 7, 153, 0, 29, 42, 180, 0, 167, 156, 0, 20, 42, 180, 0, 72, 42, 180, 0, 99]
abbrev dktX48_deposits_36 : List UInt8 := dkwX48_deposits_36 ++ dktX48_deposits_37
def dkwX48_deposits_35 : List UInt8 := [42, 180, 0, 99, 4, 47, 136, 182, 3, 249, 184, 1, 72, 167, 0, 4, 9, 173, 42, 19, 3, 251]
abbrev dktX48_deposits_35 : List UInt8 := dkwX48_deposits_35 ++ dktX48_deposits_36
def dkwX48_deposits_34 : List UInt8 := [182, 1, 7, 153, 0, 39, 42, 180, 0, 167, 156, 0, 30, 42, 180, 0, 72, 42, 180, 0, 99, 3, 47, 136]
abbrev dktX48_deposits_34 : List UInt8 := dkwX48_deposits_34 ++ dktX48_deposits_35
def dkwX48_deposits_33 : List UInt8 := [180, 0, 99, 3, 47, 136, 182, 3, 245, 133, 167, 0, 4, 9, 173, 42, 19, 3, 247, 19, 1, 36]
abbrev dktX48_deposits_33 : List UInt8 := dkwX48_deposits_33 ++ dktX48_deposits_34
def dkwX48_deposits_32 : List UInt8 := [19, 3, 243, 19, 1, 22, 182, 1, 7, 153, 0, 30, 42, 180, 0, 167, 156, 0, 21, 42, 180, 0, 72, 42]
abbrev dktX48_deposits_32 : List UInt8 := dkwX48_deposits_32 ++ dktX48_deposits_33
def dkwX48_deposits_31 : List UInt8 := [180, 0, 99, 4, 47, 42, 180, 0, 99, 5, 47, 182, 3, 241, 184, 1, 72, 167, 0, 4, 9, 173, 42]
abbrev dktX48_deposits_31 : List UInt8 := dkwX48_deposits_31 ++ dktX48_deposits_32
def dkwX48_deposits_30 : List UInt8 := [182, 1, 7, 153, 0, 43, 42, 180, 0, 167, 156, 0, 34, 42, 180, 0, 72, 42, 180, 0, 99, 3, 47, 42]
abbrev dktX48_deposits_30 : List UInt8 := dkwX48_deposits_30 ++ dktX48_deposits_31
def dkwX48_deposits_29 : List UInt8 := [42, 180, 0, 99, 4, 47, 136, 182, 3, 238, 133, 167, 0, 4, 9, 173, 42, 19, 2, 100, 19, 2, 219]
abbrev dktX48_deposits_29 : List UInt8 := dkwX48_deposits_29 ++ dktX48_deposits_30
def dkwX48_deposits_28 : List UInt8 := [182, 1, 7, 153, 0, 37, 42, 180, 0, 167, 156, 0, 28, 42, 180, 0, 72, 42, 180, 0, 99, 3, 47, 136]
abbrev dktX48_deposits_28 : List UInt8 := dkwX48_deposits_28 ++ dktX48_deposits_29
def dkwX48_deposits_27 : List UInt8 := [42, 180, 0, 99, 4, 47, 136, 182, 3, 234, 133, 167, 0, 4, 9, 173, 42, 19, 3, 236, 19, 1, 36]
abbrev dktX48_deposits_27 : List UInt8 := dkwX48_deposits_27 ++ dktX48_deposits_28
def dkwX48_deposits_26 : List UInt8 := [182, 1, 7, 153, 0, 37, 42, 180, 0, 167, 156, 0, 28, 42, 180, 0, 72, 42, 180, 0, 99, 3, 47, 136]
abbrev dktX48_deposits_26 : List UInt8 := dkwX48_deposits_26 ++ dktX48_deposits_27
def dkwX48_deposits_25 : List UInt8 := [42, 180, 0, 99, 4, 47, 136, 182, 3, 232, 167, 0, 4, 9, 173, 42, 19, 2, 13, 19, 1, 36]
abbrev dktX48_deposits_25 : List UInt8 := dkwX48_deposits_25 ++ dktX48_deposits_26
def dkwX48_deposits_24 : List UInt8 := [182, 1, 7, 153, 0, 36, 42, 180, 0, 167, 156, 0, 27, 42, 180, 0, 72, 42, 180, 0, 99, 3, 47, 136]
abbrev dktX48_deposits_24 : List UInt8 := dkwX48_deposits_24 ++ dktX48_deposits_25
def dkwX48_deposits_23 : List UInt8 := [156, 0, 14, 42, 180, 0, 72, 182, 3, 228, 133, 167, 0, 4, 9, 173, 42, 19, 3, 230, 19, 1, 36]
abbrev dktX48_deposits_23 : List UInt8 := dkwX48_deposits_23 ++ dktX48_deposits_24
def dkwX48_deposits_22 : List UInt8 := [167, 0, 4, 9, 173, 42, 19, 3, 226, 19, 1, 16, 182, 1, 7, 153, 0, 23, 42, 180, 0, 167]
abbrev dktX48_deposits_22 : List UInt8 := dkwX48_deposits_22 ++ dktX48_deposits_23
def dkwX48_deposits_21 : List UInt8 := [42, 180, 0, 99, 5, 47, 136, 42, 180, 0, 99, 6, 47, 136, 42, 180, 0, 99, 7, 47, 182, 1, 183, 133]
abbrev dktX48_deposits_21 : List UInt8 := dkwX48_deposits_21 ++ dktX48_deposits_22
def dkwX48_deposits_20 : List UInt8 := [42, 180, 0, 167, 156, 0, 47, 42, 180, 0, 72, 42, 180, 0, 99, 3, 47, 136, 42, 180, 0, 99, 4, 47]
abbrev dktX48_deposits_20 : List UInt8 := dkwX48_deposits_20 ++ dktX48_deposits_21
def dkwX48_deposits_19 : List UInt8 := [182, 3, 223, 184, 1, 72, 167, 0, 4, 9, 173, 42, 19, 3, 225, 19, 1, 47, 182, 1, 7, 153, 0, 56]
abbrev dktX48_deposits_19 : List UInt8 := dkwX48_deposits_19 ++ dktX48_deposits_20
def dkwX48_deposits_18 : List UInt8 := [180, 0, 99, 3, 47, 136, 42, 180, 0, 99, 4, 47, 10, 148, 154, 0, 7, 4, 167, 0, 4, 3]
abbrev dktX48_deposits_18 : List UInt8 := dkwX48_deposits_18 ++ dktX48_deposits_19
def dkwX48_deposits_17 : List UInt8 := [19, 3, 221, 19, 3, 216, 182, 1, 7, 153, 0, 48, 42, 180, 0, 167, 156, 0, 39, 42, 180, 0, 72, 42]
abbrev dktX48_deposits_17 : List UInt8 := dkwX48_deposits_17 ++ dktX48_deposits_18
def dkwX48_deposits_16 : List UInt8 := [10, 148, 154, 0, 7, 4, 167, 0, 4, 3, 182, 3, 218, 184, 1, 72, 167, 0, 4, 9, 173, 42]
abbrev dktX48_deposits_16 : List UInt8 := dkwX48_deposits_16 ++ dktX48_deposits_17
def dkwX48_deposits_15 : List UInt8 := [42, 180, 0, 167, 156, 0, 39, 42, 180, 0, 72, 42, 180, 0, 99, 3, 47, 136, 42, 180, 0, 99, 4, 47]
abbrev dktX48_deposits_15 : List UInt8 := dkwX48_deposits_15 ++ dktX48_deposits_16
def dkwX48_deposits_14 : List UInt8 := [182, 3, 212, 184, 1, 72, 167, 0, 4, 9, 173, 42, 19, 3, 214, 19, 3, 216, 182, 1, 7, 153, 0, 48]
abbrev dktX48_deposits_14 : List UInt8 := dkwX48_deposits_14 ++ dktX48_deposits_15
def dkwX48_deposits_13 : List UInt8 := [180, 0, 72, 42, 180, 0, 99, 3, 47, 136, 42, 180, 0, 99, 4, 47, 136, 42, 180, 0, 99, 5, 47, 136]
abbrev dktX48_deposits_13 : List UInt8 := dkwX48_deposits_13 ++ dktX48_deposits_14
def dkwX48_deposits_12 : List UInt8 := [9, 173, 42, 19, 3, 210, 19, 1, 242, 182, 1, 7, 153, 0, 46, 42, 180, 0, 167, 156, 0, 37, 42]
abbrev dktX48_deposits_12 : List UInt8 := dkwX48_deposits_12 ++ dktX48_deposits_13
def dkwX48_deposits_11 : List UInt8 := [182, 1, 7, 153, 0, 23, 42, 180, 0, 167, 156, 0, 14, 42, 180, 0, 72, 182, 3, 208, 133, 167, 0, 4]
abbrev dktX48_deposits_11 : List UInt8 := dkwX48_deposits_11 ++ dktX48_deposits_12
def dkwX48_deposits_10 : List UInt8 := [42, 180, 0, 99, 4, 47, 182, 3, 206, 184, 1, 72, 167, 0, 4, 9, 173, 42, 19, 2, 5, 19, 1, 16]
abbrev dktX48_deposits_10 : List UInt8 := dkwX48_deposits_10 ++ dktX48_deposits_11
def dkwX48_deposits_9 : List UInt8 := [182, 1, 7, 153, 0, 38, 42, 180, 0, 167, 156, 0, 29, 42, 180, 0, 72, 42, 180, 0, 99, 3, 47, 136]
abbrev dktX48_deposits_9 : List UInt8 := dkwX48_deposits_9 ++ dktX48_deposits_10
def dkwX48_deposits_8 : List UInt8 := [42, 180, 0, 99, 4, 47, 182, 3, 202, 133, 167, 0, 4, 9, 173, 42, 19, 3, 204, 19, 1, 28]
abbrev dktX48_deposits_8 : List UInt8 := dkwX48_deposits_8 ++ dktX48_deposits_9
def dkwX48_deposits_7 : List UInt8 := [182, 1, 7, 153, 0, 36, 42, 180, 0, 167, 156, 0, 27, 42, 180, 0, 72, 42, 180, 0, 99, 3, 47, 136]
abbrev dktX48_deposits_7 : List UInt8 := dkwX48_deposits_7 ++ dktX48_deposits_8
def dkwX48_deposits_6 : List UInt8 := [180, 0, 99, 3, 47, 136, 182, 3, 200, 133, 167, 0, 4, 9, 173, 42, 19, 2, 0, 19, 1, 28]
abbrev dktX48_deposits_6 : List UInt8 := dkwX48_deposits_6 ++ dktX48_deposits_7
def dkwX48_deposits_5 : List UInt8 := [19, 3, 198, 19, 1, 22, 182, 1, 7, 153, 0, 30, 42, 180, 0, 167, 156, 0, 21, 42, 180, 0, 72, 42]
abbrev dktX48_deposits_5 : List UInt8 := dkwX48_deposits_5 ++ dktX48_deposits_6
def dkwX48_deposits_4 : List UInt8 := [153, 0, 23, 42, 180, 0, 167, 156, 0, 14, 42, 180, 0, 72, 182, 3, 196, 133, 167, 0, 4, 9, 173, 42]
abbrev dktX48_deposits_4 : List UInt8 := dkwX48_deposits_4 ++ dktX48_deposits_5
def dkwX48_deposits_3 : List UInt8 := [180, 0, 72, 182, 3, 193, 133, 167, 0, 4, 9, 173, 42, 19, 3, 194, 19, 1, 16, 182, 1, 7]
abbrev dktX48_deposits_3 : List UInt8 := dkwX48_deposits_3 ++ dktX48_deposits_4
def dkwX48_deposits_2 : List UInt8 := [173, 42, 19, 2, 65, 19, 1, 16, 182, 1, 7, 153, 0, 23, 42, 180, 0, 167, 156, 0, 14, 42]
abbrev dktX48_deposits_2 : List UInt8 := dkwX48_deposits_2 ++ dktX48_deposits_3
def dkwX48_deposits_1 : List UInt8 := [42, 180, 0, 99, 3, 47, 136, 42, 180, 0, 99, 4, 47, 136, 182, 3, 191, 184, 1, 72, 167, 0, 4, 9]
abbrev dktX48_deposits_1 : List UInt8 := dkwX48_deposits_1 ++ dktX48_deposits_2
def dkwX48_deposits_0 : List UInt8 := [42, 19, 3, 189, 19, 1, 36, 182, 1, 7, 153, 0, 39, 42, 180, 0, 167, 156, 0, 30, 42, 180, 0, 72]
abbrev dktX48_deposits_0 : List UInt8 := dkwX48_deposits_0 ++ dktX48_deposits_1
theorem dksX48_deposits_0 : cX48_deposits.data.toList.drop 0 = dktX48_deposits_0 := by decide +kernel
theorem dksX48_deposits_1 : cX48_deposits.data.toList.drop 24 = dktX48_deposits_1 := dk_seg dksX48_deposits_0 24 rfl rfl
theorem dksX48_deposits_2 : cX48_deposits.data.toList.drop 48 = dktX48_deposits_2 := dk_seg dksX48_deposits_1 24 rfl rfl
theorem dksX48_deposits_3 : cX48_deposits.data.toList.drop 70 = dktX48_deposits_3 := dk_seg dksX48_deposits_2 22 rfl rfl
theorem dksX48_deposits_4 : cX48_deposits.data.toList.drop 92 = dktX48_deposits_4 := dk_seg dksX48_deposits_3 22 rfl rfl
theorem dksX48_deposits_5 : cX48_deposits.data.toList.drop 116 = dktX48_deposits_5 := dk_seg dksX48_deposits_4 24 rfl rfl
theorem dksX48_deposits_6 : cX48_deposits.data.toList.drop 140 = dktX48_deposits_6 := dk_seg dksX48_deposits_5 24 rfl rfl
theorem dksX48_deposits_7 : cX48_deposits.data.toList.drop 162 = dktX48_deposits_7 := dk_seg dksX48_deposits_6 22 rfl rfl
theorem dksX48_deposits_8 : cX48_deposits.data.toList.drop 186 = dktX48_deposits_8 := dk_seg dksX48_deposits_7 24 rfl rfl
theorem dksX48_deposits_9 : cX48_deposits.data.toList.drop 208 = dktX48_deposits_9 := dk_seg dksX48_deposits_8 22 rfl rfl
theorem dksX48_deposits_10 : cX48_deposits.data.toList.drop 232 = dktX48_deposits_10 := dk_seg dksX48_deposits_9 24 rfl rfl
theorem dksX48_deposits_11 : cX48_deposits.data.toList.drop 256 = dktX48_deposits_11 := dk_seg dksX48_deposits_10 24 rfl rfl
theorem dksX48_deposits_12 : cX48_deposits.data.toList.drop 280 = dktX48_deposits_12 := dk_seg dksX48_deposits_11 24 rfl rfl
theorem dksX48_deposits_13 : cX48_deposits.data.toList.drop 303 = dktX48_deposits_13 := dk_seg dksX48_deposits_12 23 rfl rfl
theorem dksX48_deposits_14 : cX48_deposits.data.toList.drop 327 = dktX48_deposits_14 := dk_seg dksX48_deposits_13 24 rfl rfl
theorem dksX48_deposits_15 : cX48_deposits.data.toList.drop 351 = dktX48_deposits_15 := dk_seg dksX48_deposits_14 24 rfl rfl
theorem dksX48_deposits_16 : cX48_deposits.data.toList.drop 375 = dktX48_deposits_16 := dk_seg dksX48_deposits_15 24 rfl rfl
theorem dksX48_deposits_17 : cX48_deposits.data.toList.drop 397 = dktX48_deposits_17 := dk_seg dksX48_deposits_16 22 rfl rfl
theorem dksX48_deposits_18 : cX48_deposits.data.toList.drop 421 = dktX48_deposits_18 := dk_seg dksX48_deposits_17 24 rfl rfl
theorem dksX48_deposits_19 : cX48_deposits.data.toList.drop 443 = dktX48_deposits_19 := dk_seg dksX48_deposits_18 22 rfl rfl
theorem dksX48_deposits_20 : cX48_deposits.data.toList.drop 467 = dktX48_deposits_20 := dk_seg dksX48_deposits_19 24 rfl rfl
theorem dksX48_deposits_21 : cX48_deposits.data.toList.drop 491 = dktX48_deposits_21 := dk_seg dksX48_deposits_20 24 rfl rfl
theorem dksX48_deposits_22 : cX48_deposits.data.toList.drop 515 = dktX48_deposits_22 := dk_seg dksX48_deposits_21 24 rfl rfl
theorem dksX48_deposits_23 : cX48_deposits.data.toList.drop 537 = dktX48_deposits_23 := dk_seg dksX48_deposits_22 22 rfl rfl
theorem dksX48_deposits_24 : cX48_deposits.data.toList.drop 560 = dktX48_deposits_24 := dk_seg dksX48_deposits_23 23 rfl rfl
theorem dksX48_deposits_25 : cX48_deposits.data.toList.drop 584 = dktX48_deposits_25 := dk_seg dksX48_deposits_24 24 rfl rfl
theorem dksX48_deposits_26 : cX48_deposits.data.toList.drop 606 = dktX48_deposits_26 := dk_seg dksX48_deposits_25 22 rfl rfl
theorem dksX48_deposits_27 : cX48_deposits.data.toList.drop 630 = dktX48_deposits_27 := dk_seg dksX48_deposits_26 24 rfl rfl
theorem dksX48_deposits_28 : cX48_deposits.data.toList.drop 653 = dktX48_deposits_28 := dk_seg dksX48_deposits_27 23 rfl rfl
theorem dksX48_deposits_29 : cX48_deposits.data.toList.drop 677 = dktX48_deposits_29 := dk_seg dksX48_deposits_28 24 rfl rfl
theorem dksX48_deposits_30 : cX48_deposits.data.toList.drop 700 = dktX48_deposits_30 := dk_seg dksX48_deposits_29 23 rfl rfl
theorem dksX48_deposits_31 : cX48_deposits.data.toList.drop 724 = dktX48_deposits_31 := dk_seg dksX48_deposits_30 24 rfl rfl
theorem dksX48_deposits_32 : cX48_deposits.data.toList.drop 747 = dktX48_deposits_32 := dk_seg dksX48_deposits_31 23 rfl rfl
theorem dksX48_deposits_33 : cX48_deposits.data.toList.drop 771 = dktX48_deposits_33 := dk_seg dksX48_deposits_32 24 rfl rfl
theorem dksX48_deposits_34 : cX48_deposits.data.toList.drop 793 = dktX48_deposits_34 := dk_seg dksX48_deposits_33 22 rfl rfl
theorem dksX48_deposits_35 : cX48_deposits.data.toList.drop 817 = dktX48_deposits_35 := dk_seg dksX48_deposits_34 24 rfl rfl
theorem dksX48_deposits_36 : cX48_deposits.data.toList.drop 839 = dktX48_deposits_36 := dk_seg dksX48_deposits_35 22 rfl rfl
theorem dksX48_deposits_37 : cX48_deposits.data.toList.drop 863 = dktX48_deposits_37 := dk_seg dksX48_deposits_36 24 rfl rfl
theorem dksX48_deposits_38 : cX48_deposits.data.toList.drop 887 = dktX48_deposits_38 := dk_seg dksX48_deposits_37 24 rfl rfl
theorem dksX48_deposits_39 : cX48_deposits.data.toList.drop 909 = dktX48_deposits_39 := dk_seg dksX48_deposits_38 22 rfl rfl
theorem dksX48_deposits_40 : cX48_deposits.data.toList.drop 931 = dktX48_deposits_40 := dk_seg dksX48_deposits_39 22 rfl rfl
theorem dksX48_deposits_41 : cX48_deposits.data.toList.drop 954 = dktX48_deposits_41 := dk_seg dksX48_deposits_40 23 rfl rfl
theorem dksX48_deposits_42 : cX48_deposits.data.toList.drop 978 = dktX48_deposits_42 := dk_seg dksX48_deposits_41 24 rfl rfl
theorem dX48_deposits_0 : decode cX48_deposits 0 = .ok (.aload_n 0, 1) := dk_42 (dk_at dksX48_deposits_0 0 rfl rfl)
theorem dX48_deposits_1 : decode cX48_deposits 1 = .ok (.ldc_w 957, 3) := dk_19 3 189 (dk_at dksX48_deposits_0 1 rfl rfl)
theorem dX48_deposits_4 : decode cX48_deposits 4 = .ok (.ldc_w 292, 3) := dk_19 1 36 (dk_at dksX48_deposits_0 4 rfl rfl)
theorem dX48_deposits_7 : decode cX48_deposits 7 = .ok (.invokevirtual 263, 3) := dk_182 1 7 (dk_at dksX48_deposits_0 7 rfl rfl)
theorem dX48_deposits_10 : decode cX48_deposits 10 = .ok (.ifCond .eq 39, 3) := dk_153 0 39 (dk_at dksX48_deposits_0 10 rfl rfl)
theorem dX48_deposits_13 : decode cX48_deposits 13 = .ok (.aload_n 0, 1) := dk_42 (dk_at dksX48_deposits_0 13 rfl rfl)
theorem dX48_deposits_14 : decode cX48_deposits 14 = .ok (.getfield 167, 3) := dk_180 0 167 (dk_at dksX48_deposits_0 14 rfl rfl)
theorem dX48_deposits_17 : decode cX48_deposits 17 = .ok (.ifCond .ge 30, 3) := dk_156 0 30 (dk_at dksX48_deposits_0 17 rfl rfl)
theorem dX48_deposits_20 : decode cX48_deposits 20 = .ok (.aload_n 0, 1) := dk_42 (dk_at dksX48_deposits_0 20 rfl rfl)
theorem dX48_deposits_21 : decode cX48_deposits 21 = .ok (.getfield 72, 3) := dk_180 0 72 (dk_at dksX48_deposits_0 21 rfl rfl)
theorem dX48_deposits_24 : decode cX48_deposits 24 = .ok (.aload_n 0, 1) := dk_42 (dk_at dksX48_deposits_1 0 rfl rfl)
theorem dX48_deposits_25 : decode cX48_deposits 25 = .ok (.getfield 99, 3) := dk_180 0 99 (dk_at dksX48_deposits_1 1 rfl rfl)
theorem dX48_deposits_28 : decode cX48_deposits 28 = .ok (.iconst 0, 1) := dk_3 (dk_at dksX48_deposits_1 4 rfl rfl)
theorem dX48_deposits_29 : decode cX48_deposits 29 = .ok (.laload, 1) := dk_47 (dk_at dksX48_deposits_1 5 rfl rfl)
theorem dX48_deposits_30 : decode cX48_deposits 30 = .ok (.l2i, 1) := dk_136 (dk_at dksX48_deposits_1 6 rfl rfl)
theorem dX48_deposits_31 : decode cX48_deposits 31 = .ok (.aload_n 0, 1) := dk_42 (dk_at dksX48_deposits_1 7 rfl rfl)
theorem dX48_deposits_32 : decode cX48_deposits 32 = .ok (.getfield 99, 3) := dk_180 0 99 (dk_at dksX48_deposits_1 8 rfl rfl)
theorem dX48_deposits_35 : decode cX48_deposits 35 = .ok (.iconst 1, 1) := dk_4 (dk_at dksX48_deposits_1 11 rfl rfl)
theorem dX48_deposits_36 : decode cX48_deposits 36 = .ok (.laload, 1) := dk_47 (dk_at dksX48_deposits_1 12 rfl rfl)
theorem dX48_deposits_37 : decode cX48_deposits 37 = .ok (.l2i, 1) := dk_136 (dk_at dksX48_deposits_1 13 rfl rfl)
theorem dX48_deposits_38 : decode cX48_deposits 38 = .ok (.invokevirtual 959, 3) := dk_182 3 191 (dk_at dksX48_deposits_1 14 rfl rfl)
theorem dX48_deposits_41 : decode cX48_deposits 41 = .ok (.invokestatic 328, 3) := dk_184 1 72 (dk_at dksX48_deposits_1 17 rfl rfl)
theorem dX48_deposits_44 : decode cX48_deposits 44 = .ok (.goto 4, 3) := dk_167 0 4 (dk_at dksX48_deposits_1 20 rfl rfl)
theorem dX48_deposits_47 : decode cX48_deposits 47 = .ok (.lconst 0, 1) := dk_9 (dk_at dksX48_deposits_1 23 rfl rfl)
theorem dX48_deposits_48 : decode cX48_deposits 48 = .ok (.lreturn, 1) := dk_173 (dk_at dksX48_deposits_2 0 rfl rfl)
theorem dX48_deposits_49 : decode cX48_deposits 49 = .ok (.aload_n 0, 1) := dk_42 (dk_at dksX48_deposits_2 1 rfl rfl)
theorem dX48_deposits_50 : decode cX48_deposits 50 = .ok (.ldc_w 577, 3) := dk_19 2 65 (dk_at dksX48_deposits_2 2 rfl rfl)
theorem dX48_deposits_53 : decode cX48_deposits 53 = .ok (.ldc_w 272, 3) := dk_19 1 16 (dk_at dksX48_deposits_2 5 rfl rfl)
theorem dX48_deposits_56 : decode cX48_deposits 56 = .ok (.invokevirtual 263, 3) := dk_182 1 7 (dk_at dksX48_deposits_2 8 rfl rfl)
theorem dX48_deposits_59 : decode cX48_deposits 59 = .ok (.ifCond .eq 23, 3) := dk_153 0 23 (dk_at dksX48_deposits_2 11 rfl rfl)
theorem dX48_deposits_62 : decode cX48_deposits 62 = .ok (.aload_n 0, 1) := dk_42 (dk_at dksX48_deposits_2 14 rfl rfl)
theorem dX48_deposits_63 : decode cX48_deposits 63 = .ok (.getfield 167, 3) := dk_180 0 167 (dk_at dksX48_deposits_2 15 rfl rfl)
theorem dX48_deposits_66 : decode cX48_deposits 66 = .ok (.ifCond .ge 14, 3) := dk_156 0 14 (dk_at dksX48_deposits_2 18 rfl rfl)
theorem dX48_deposits_69 : decode cX48_deposits 69 = .ok (.aload_n 0, 1) := dk_42 (dk_at dksX48_deposits_2 21 rfl rfl)
theorem dX48_deposits_70 : decode cX48_deposits 70 = .ok (.getfield 72, 3) := dk_180 0 72 (dk_at dksX48_deposits_3 0 rfl rfl)
theorem dX48_deposits_73 : decode cX48_deposits 73 = .ok (.invokevirtual 961, 3) := dk_182 3 193 (dk_at dksX48_deposits_3 3 rfl rfl)
theorem dX48_deposits_76 : decode cX48_deposits 76 = .ok (.i2l, 1) := dk_133 (dk_at dksX48_deposits_3 6 rfl rfl)
theorem dX48_deposits_77 : decode cX48_deposits 77 = .ok (.goto 4, 3) := dk_167 0 4 (dk_at dksX48_deposits_3 7 rfl rfl)
theorem dX48_deposits_80 : decode cX48_deposits 80 = .ok (.lconst 0, 1) := dk_9 (dk_at dksX48_deposits_3 10 rfl rfl)
theorem dX48_deposits_81 : decode cX48_deposits 81 = .ok (.lreturn, 1) := dk_173 (dk_at dksX48_deposits_3 11 rfl rfl)
theorem dX48_deposits_82 : decode cX48_deposits 82 = .ok (.aload_n 0, 1) := dk_42 (dk_at dksX48_deposits_3 12 rfl rfl)
theorem dX48_deposits_83 : decode cX48_deposits 83 = .ok (.ldc_w 962, 3) := dk_19 3 194 (dk_at dksX48_deposits_3 13 rfl rfl)
theorem dX48_deposits_86 : decode cX48_deposits 86 = .ok (.ldc_w 272, 3) := dk_19 1 16 (dk_at dksX48_deposits_3 16 rfl rfl)
theorem dX48_deposits_89 : decode cX48_deposits 89 = .ok (.invokevirtual 263, 3) := dk_182 1 7 (dk_at dksX48_deposits_3 19 rfl rfl)
theorem dX48_deposits_92 : decode cX48_deposits 92 = .ok (.ifCond .eq 23, 3) := dk_153 0 23 (dk_at dksX48_deposits_4 0 rfl rfl)
theorem dX48_deposits_95 : decode cX48_deposits 95 = .ok (.aload_n 0, 1) := dk_42 (dk_at dksX48_deposits_4 3 rfl rfl)
theorem dX48_deposits_96 : decode cX48_deposits 96 = .ok (.getfield 167, 3) := dk_180 0 167 (dk_at dksX48_deposits_4 4 rfl rfl)
theorem dX48_deposits_99 : decode cX48_deposits 99 = .ok (.ifCond .ge 14, 3) := dk_156 0 14 (dk_at dksX48_deposits_4 7 rfl rfl)
theorem dX48_deposits_102 : decode cX48_deposits 102 = .ok (.aload_n 0, 1) := dk_42 (dk_at dksX48_deposits_4 10 rfl rfl)
theorem dX48_deposits_103 : decode cX48_deposits 103 = .ok (.getfield 72, 3) := dk_180 0 72 (dk_at dksX48_deposits_4 11 rfl rfl)
theorem dX48_deposits_106 : decode cX48_deposits 106 = .ok (.invokevirtual 964, 3) := dk_182 3 196 (dk_at dksX48_deposits_4 14 rfl rfl)
theorem dX48_deposits_109 : decode cX48_deposits 109 = .ok (.i2l, 1) := dk_133 (dk_at dksX48_deposits_4 17 rfl rfl)
theorem dX48_deposits_110 : decode cX48_deposits 110 = .ok (.goto 4, 3) := dk_167 0 4 (dk_at dksX48_deposits_4 18 rfl rfl)
theorem dX48_deposits_113 : decode cX48_deposits 113 = .ok (.lconst 0, 1) := dk_9 (dk_at dksX48_deposits_4 21 rfl rfl)
theorem dX48_deposits_114 : decode cX48_deposits 114 = .ok (.lreturn, 1) := dk_173 (dk_at dksX48_deposits_4 22 rfl rfl)
theorem dX48_deposits_115 : decode cX48_deposits 115 = .ok (.aload_n 0, 1) := dk_42 (dk_at dksX48_deposits_4 23 rfl rfl)
theorem dX48_deposits_116 : decode cX48_deposits 116 = .ok (.ldc_w 966, 3) := dk_19 3 198 (dk_at dksX48_deposits_5 0 rfl rfl)
theorem dX48_deposits_119 : decode cX48_deposits 119 = .ok (.ldc_w 278, 3) := dk_19 1 22 (dk_at dksX48_deposits_5 3 rfl rfl)
theorem dX48_deposits_122 : decode cX48_deposits 122 = .ok (.invokevirtual 263, 3) := dk_182 1 7 (dk_at dksX48_deposits_5 6 rfl rfl)
theorem dX48_deposits_125 : decode cX48_deposits 125 = .ok (.ifCond .eq 30, 3) := dk_153 0 30 (dk_at dksX48_deposits_5 9 rfl rfl)
theorem dX48_deposits_128 : decode cX48_deposits 128 = .ok (.aload_n 0, 1) := dk_42 (dk_at dksX48_deposits_5 12 rfl rfl)
theorem dX48_deposits_129 : decode cX48_deposits 129 = .ok (.getfield 167, 3) := dk_180 0 167 (dk_at dksX48_deposits_5 13 rfl rfl)
theorem dX48_deposits_132 : decode cX48_deposits 132 = .ok (.ifCond .ge 21, 3) := dk_156 0 21 (dk_at dksX48_deposits_5 16 rfl rfl)
theorem dX48_deposits_135 : decode cX48_deposits 135 = .ok (.aload_n 0, 1) := dk_42 (dk_at dksX48_deposits_5 19 rfl rfl)
theorem dX48_deposits_136 : decode cX48_deposits 136 = .ok (.getfield 72, 3) := dk_180 0 72 (dk_at dksX48_deposits_5 20 rfl rfl)
theorem dX48_deposits_139 : decode cX48_deposits 139 = .ok (.aload_n 0, 1) := dk_42 (dk_at dksX48_deposits_5 23 rfl rfl)
theorem dX48_deposits_140 : decode cX48_deposits 140 = .ok (.getfield 99, 3) := dk_180 0 99 (dk_at dksX48_deposits_6 0 rfl rfl)
theorem dX48_deposits_143 : decode cX48_deposits 143 = .ok (.iconst 0, 1) := dk_3 (dk_at dksX48_deposits_6 3 rfl rfl)
theorem dX48_deposits_144 : decode cX48_deposits 144 = .ok (.laload, 1) := dk_47 (dk_at dksX48_deposits_6 4 rfl rfl)
theorem dX48_deposits_145 : decode cX48_deposits 145 = .ok (.l2i, 1) := dk_136 (dk_at dksX48_deposits_6 5 rfl rfl)
theorem dX48_deposits_146 : decode cX48_deposits 146 = .ok (.invokevirtual 968, 3) := dk_182 3 200 (dk_at dksX48_deposits_6 6 rfl rfl)
theorem dX48_deposits_149 : decode cX48_deposits 149 = .ok (.i2l, 1) := dk_133 (dk_at dksX48_deposits_6 9 rfl rfl)
theorem dX48_deposits_150 : decode cX48_deposits 150 = .ok (.goto 4, 3) := dk_167 0 4 (dk_at dksX48_deposits_6 10 rfl rfl)
theorem dX48_deposits_153 : decode cX48_deposits 153 = .ok (.lconst 0, 1) := dk_9 (dk_at dksX48_deposits_6 13 rfl rfl)
theorem dX48_deposits_154 : decode cX48_deposits 154 = .ok (.lreturn, 1) := dk_173 (dk_at dksX48_deposits_6 14 rfl rfl)
theorem dX48_deposits_155 : decode cX48_deposits 155 = .ok (.aload_n 0, 1) := dk_42 (dk_at dksX48_deposits_6 15 rfl rfl)
theorem dX48_deposits_156 : decode cX48_deposits 156 = .ok (.ldc_w 512, 3) := dk_19 2 0 (dk_at dksX48_deposits_6 16 rfl rfl)
theorem dX48_deposits_159 : decode cX48_deposits 159 = .ok (.ldc_w 284, 3) := dk_19 1 28 (dk_at dksX48_deposits_6 19 rfl rfl)
theorem dX48_deposits_162 : decode cX48_deposits 162 = .ok (.invokevirtual 263, 3) := dk_182 1 7 (dk_at dksX48_deposits_7 0 rfl rfl)
theorem dX48_deposits_165 : decode cX48_deposits 165 = .ok (.ifCond .eq 36, 3) := dk_153 0 36 (dk_at dksX48_deposits_7 3 rfl rfl)
theorem dX48_deposits_168 : decode cX48_deposits 168 = .ok (.aload_n 0, 1) := dk_42 (dk_at dksX48_deposits_7 6 rfl rfl)
theorem dX48_deposits_169 : decode cX48_deposits 169 = .ok (.getfield 167, 3) := dk_180 0 167 (dk_at dksX48_deposits_7 7 rfl rfl)
theorem dX48_deposits_172 : decode cX48_deposits 172 = .ok (.ifCond .ge 27, 3) := dk_156 0 27 (dk_at dksX48_deposits_7 10 rfl rfl)
theorem dX48_deposits_175 : decode cX48_deposits 175 = .ok (.aload_n 0, 1) := dk_42 (dk_at dksX48_deposits_7 13 rfl rfl)
theorem dX48_deposits_176 : decode cX48_deposits 176 = .ok (.getfield 72, 3) := dk_180 0 72 (dk_at dksX48_deposits_7 14 rfl rfl)
theorem dX48_deposits_179 : decode cX48_deposits 179 = .ok (.aload_n 0, 1) := dk_42 (dk_at dksX48_deposits_7 17 rfl rfl)
theorem dX48_deposits_180 : decode cX48_deposits 180 = .ok (.getfield 99, 3) := dk_180 0 99 (dk_at dksX48_deposits_7 18 rfl rfl)
theorem dX48_deposits_183 : decode cX48_deposits 183 = .ok (.iconst 0, 1) := dk_3 (dk_at dksX48_deposits_7 21 rfl rfl)
theorem dX48_deposits_184 : decode cX48_deposits 184 = .ok (.laload, 1) := dk_47 (dk_at dksX48_deposits_7 22 rfl rfl)
theorem dX48_deposits_185 : decode cX48_deposits 185 = .ok (.l2i, 1) := dk_136 (dk_at dksX48_deposits_7 23 rfl rfl)
theorem dX48_deposits_186 : decode cX48_deposits 186 = .ok (.aload_n 0, 1) := dk_42 (dk_at dksX48_deposits_8 0 rfl rfl)
theorem dX48_deposits_187 : decode cX48_deposits 187 = .ok (.getfield 99, 3) := dk_180 0 99 (dk_at dksX48_deposits_8 1 rfl rfl)
theorem dX48_deposits_190 : decode cX48_deposits 190 = .ok (.iconst 1, 1) := dk_4 (dk_at dksX48_deposits_8 4 rfl rfl)
theorem dX48_deposits_191 : decode cX48_deposits 191 = .ok (.laload, 1) := dk_47 (dk_at dksX48_deposits_8 5 rfl rfl)
theorem dX48_deposits_192 : decode cX48_deposits 192 = .ok (.invokevirtual 970, 3) := dk_182 3 202 (dk_at dksX48_deposits_8 6 rfl rfl)
theorem dX48_deposits_195 : decode cX48_deposits 195 = .ok (.i2l, 1) := dk_133 (dk_at dksX48_deposits_8 9 rfl rfl)
theorem dX48_deposits_196 : decode cX48_deposits 196 = .ok (.goto 4, 3) := dk_167 0 4 (dk_at dksX48_deposits_8 10 rfl rfl)
theorem dX48_deposits_199 : decode cX48_deposits 199 = .ok (.lconst 0, 1) := dk_9 (dk_at dksX48_deposits_8 13 rfl rfl)
theorem dX48_deposits_200 : decode cX48_deposits 200 = .ok (.lreturn, 1) := dk_173 (dk_at dksX48_deposits_8 14 rfl rfl)
theorem dX48_deposits_201 : decode cX48_deposits 201 = .ok (.aload_n 0, 1) := dk_42 (dk_at dksX48_deposits_8 15 rfl rfl)
theorem dX48_deposits_202 : decode cX48_deposits 202 = .ok (.ldc_w 972, 3) := dk_19 3 204 (dk_at dksX48_deposits_8 16 rfl rfl)
theorem dX48_deposits_205 : decode cX48_deposits 205 = .ok (.ldc_w 284, 3) := dk_19 1 28 (dk_at dksX48_deposits_8 19 rfl rfl)
theorem dX48_deposits_208 : decode cX48_deposits 208 = .ok (.invokevirtual 263, 3) := dk_182 1 7 (dk_at dksX48_deposits_9 0 rfl rfl)
theorem dX48_deposits_211 : decode cX48_deposits 211 = .ok (.ifCond .eq 38, 3) := dk_153 0 38 (dk_at dksX48_deposits_9 3 rfl rfl)
theorem dX48_deposits_214 : decode cX48_deposits 214 = .ok (.aload_n 0, 1) := dk_42 (dk_at dksX48_deposits_9 6 rfl rfl)
theorem dX48_deposits_215 : decode cX48_deposits 215 = .ok (.getfield 167, 3) := dk_180 0 167 (dk_at dksX48_deposits_9 7 rfl rfl)
theorem dX48_deposits_218 : decode cX48_deposits 218 = .ok (.ifCond .ge 29, 3) := dk_156 0 29 (dk_at dksX48_deposits_9 10 rfl rfl)
theorem dX48_deposits_221 : decode cX48_deposits 221 = .ok (.aload_n 0, 1) := dk_42 (dk_at dksX48_deposits_9 13 rfl rfl)
theorem dX48_deposits_222 : decode cX48_deposits 222 = .ok (.getfield 72, 3) := dk_180 0 72 (dk_at dksX48_deposits_9 14 rfl rfl)
theorem dX48_deposits_225 : decode cX48_deposits 225 = .ok (.aload_n 0, 1) := dk_42 (dk_at dksX48_deposits_9 17 rfl rfl)
theorem dX48_deposits_226 : decode cX48_deposits 226 = .ok (.getfield 99, 3) := dk_180 0 99 (dk_at dksX48_deposits_9 18 rfl rfl)
theorem dX48_deposits_229 : decode cX48_deposits 229 = .ok (.iconst 0, 1) := dk_3 (dk_at dksX48_deposits_9 21 rfl rfl)
theorem dX48_deposits_230 : decode cX48_deposits 230 = .ok (.laload, 1) := dk_47 (dk_at dksX48_deposits_9 22 rfl rfl)
theorem dX48_deposits_231 : decode cX48_deposits 231 = .ok (.l2i, 1) := dk_136 (dk_at dksX48_deposits_9 23 rfl rfl)
theorem dX48_deposits_232 : decode cX48_deposits 232 = .ok (.aload_n 0, 1) := dk_42 (dk_at dksX48_deposits_10 0 rfl rfl)
theorem dX48_deposits_233 : decode cX48_deposits 233 = .ok (.getfield 99, 3) := dk_180 0 99 (dk_at dksX48_deposits_10 1 rfl rfl)
theorem dX48_deposits_236 : decode cX48_deposits 236 = .ok (.iconst 1, 1) := dk_4 (dk_at dksX48_deposits_10 4 rfl rfl)
theorem dX48_deposits_237 : decode cX48_deposits 237 = .ok (.laload, 1) := dk_47 (dk_at dksX48_deposits_10 5 rfl rfl)
theorem dX48_deposits_238 : decode cX48_deposits 238 = .ok (.invokevirtual 974, 3) := dk_182 3 206 (dk_at dksX48_deposits_10 6 rfl rfl)
theorem dX48_deposits_241 : decode cX48_deposits 241 = .ok (.invokestatic 328, 3) := dk_184 1 72 (dk_at dksX48_deposits_10 9 rfl rfl)
theorem dX48_deposits_244 : decode cX48_deposits 244 = .ok (.goto 4, 3) := dk_167 0 4 (dk_at dksX48_deposits_10 12 rfl rfl)
theorem dX48_deposits_247 : decode cX48_deposits 247 = .ok (.lconst 0, 1) := dk_9 (dk_at dksX48_deposits_10 15 rfl rfl)
theorem dX48_deposits_248 : decode cX48_deposits 248 = .ok (.lreturn, 1) := dk_173 (dk_at dksX48_deposits_10 16 rfl rfl)
theorem dX48_deposits_249 : decode cX48_deposits 249 = .ok (.aload_n 0, 1) := dk_42 (dk_at dksX48_deposits_10 17 rfl rfl)
theorem dX48_deposits_250 : decode cX48_deposits 250 = .ok (.ldc_w 517, 3) := dk_19 2 5 (dk_at dksX48_deposits_10 18 rfl rfl)
theorem dX48_deposits_253 : decode cX48_deposits 253 = .ok (.ldc_w 272, 3) := dk_19 1 16 (dk_at dksX48_deposits_10 21 rfl rfl)
theorem dX48_deposits_256 : decode cX48_deposits 256 = .ok (.invokevirtual 263, 3) := dk_182 1 7 (dk_at dksX48_deposits_11 0 rfl rfl)
theorem dX48_deposits_259 : decode cX48_deposits 259 = .ok (.ifCond .eq 23, 3) := dk_153 0 23 (dk_at dksX48_deposits_11 3 rfl rfl)
theorem dX48_deposits_262 : decode cX48_deposits 262 = .ok (.aload_n 0, 1) := dk_42 (dk_at dksX48_deposits_11 6 rfl rfl)
theorem dX48_deposits_263 : decode cX48_deposits 263 = .ok (.getfield 167, 3) := dk_180 0 167 (dk_at dksX48_deposits_11 7 rfl rfl)
theorem dX48_deposits_266 : decode cX48_deposits 266 = .ok (.ifCond .ge 14, 3) := dk_156 0 14 (dk_at dksX48_deposits_11 10 rfl rfl)
theorem dX48_deposits_269 : decode cX48_deposits 269 = .ok (.aload_n 0, 1) := dk_42 (dk_at dksX48_deposits_11 13 rfl rfl)
theorem dX48_deposits_270 : decode cX48_deposits 270 = .ok (.getfield 72, 3) := dk_180 0 72 (dk_at dksX48_deposits_11 14 rfl rfl)
theorem dX48_deposits_273 : decode cX48_deposits 273 = .ok (.invokevirtual 976, 3) := dk_182 3 208 (dk_at dksX48_deposits_11 17 rfl rfl)
theorem dX48_deposits_276 : decode cX48_deposits 276 = .ok (.i2l, 1) := dk_133 (dk_at dksX48_deposits_11 20 rfl rfl)
theorem dX48_deposits_277 : decode cX48_deposits 277 = .ok (.goto 4, 3) := dk_167 0 4 (dk_at dksX48_deposits_11 21 rfl rfl)
theorem dX48_deposits_280 : decode cX48_deposits 280 = .ok (.lconst 0, 1) := dk_9 (dk_at dksX48_deposits_12 0 rfl rfl)
theorem dX48_deposits_281 : decode cX48_deposits 281 = .ok (.lreturn, 1) := dk_173 (dk_at dksX48_deposits_12 1 rfl rfl)
theorem dX48_deposits_282 : decode cX48_deposits 282 = .ok (.aload_n 0, 1) := dk_42 (dk_at dksX48_deposits_12 2 rfl rfl)
theorem dX48_deposits_283 : decode cX48_deposits 283 = .ok (.ldc_w 978, 3) := dk_19 3 210 (dk_at dksX48_deposits_12 3 rfl rfl)
theorem dX48_deposits_286 : decode cX48_deposits 286 = .ok (.ldc_w 498, 3) := dk_19 1 242 (dk_at dksX48_deposits_12 6 rfl rfl)
theorem dX48_deposits_289 : decode cX48_deposits 289 = .ok (.invokevirtual 263, 3) := dk_182 1 7 (dk_at dksX48_deposits_12 9 rfl rfl)
theorem dX48_deposits_292 : decode cX48_deposits 292 = .ok (.ifCond .eq 46, 3) := dk_153 0 46 (dk_at dksX48_deposits_12 12 rfl rfl)
theorem dX48_deposits_295 : decode cX48_deposits 295 = .ok (.aload_n 0, 1) := dk_42 (dk_at dksX48_deposits_12 15 rfl rfl)
theorem dX48_deposits_296 : decode cX48_deposits 296 = .ok (.getfield 167, 3) := dk_180 0 167 (dk_at dksX48_deposits_12 16 rfl rfl)
theorem dX48_deposits_299 : decode cX48_deposits 299 = .ok (.ifCond .ge 37, 3) := dk_156 0 37 (dk_at dksX48_deposits_12 19 rfl rfl)
theorem dX48_deposits_302 : decode cX48_deposits 302 = .ok (.aload_n 0, 1) := dk_42 (dk_at dksX48_deposits_12 22 rfl rfl)
theorem dX48_deposits_303 : decode cX48_deposits 303 = .ok (.getfield 72, 3) := dk_180 0 72 (dk_at dksX48_deposits_13 0 rfl rfl)
theorem dX48_deposits_306 : decode cX48_deposits 306 = .ok (.aload_n 0, 1) := dk_42 (dk_at dksX48_deposits_13 3 rfl rfl)
theorem dX48_deposits_307 : decode cX48_deposits 307 = .ok (.getfield 99, 3) := dk_180 0 99 (dk_at dksX48_deposits_13 4 rfl rfl)
theorem dX48_deposits_310 : decode cX48_deposits 310 = .ok (.iconst 0, 1) := dk_3 (dk_at dksX48_deposits_13 7 rfl rfl)
theorem dX48_deposits_311 : decode cX48_deposits 311 = .ok (.laload, 1) := dk_47 (dk_at dksX48_deposits_13 8 rfl rfl)
theorem dX48_deposits_312 : decode cX48_deposits 312 = .ok (.l2i, 1) := dk_136 (dk_at dksX48_deposits_13 9 rfl rfl)
theorem dX48_deposits_313 : decode cX48_deposits 313 = .ok (.aload_n 0, 1) := dk_42 (dk_at dksX48_deposits_13 10 rfl rfl)
theorem dX48_deposits_314 : decode cX48_deposits 314 = .ok (.getfield 99, 3) := dk_180 0 99 (dk_at dksX48_deposits_13 11 rfl rfl)
theorem dX48_deposits_317 : decode cX48_deposits 317 = .ok (.iconst 1, 1) := dk_4 (dk_at dksX48_deposits_13 14 rfl rfl)
theorem dX48_deposits_318 : decode cX48_deposits 318 = .ok (.laload, 1) := dk_47 (dk_at dksX48_deposits_13 15 rfl rfl)
theorem dX48_deposits_319 : decode cX48_deposits 319 = .ok (.l2i, 1) := dk_136 (dk_at dksX48_deposits_13 16 rfl rfl)
theorem dX48_deposits_320 : decode cX48_deposits 320 = .ok (.aload_n 0, 1) := dk_42 (dk_at dksX48_deposits_13 17 rfl rfl)
theorem dX48_deposits_321 : decode cX48_deposits 321 = .ok (.getfield 99, 3) := dk_180 0 99 (dk_at dksX48_deposits_13 18 rfl rfl)
theorem dX48_deposits_324 : decode cX48_deposits 324 = .ok (.iconst 2, 1) := dk_5 (dk_at dksX48_deposits_13 21 rfl rfl)
theorem dX48_deposits_325 : decode cX48_deposits 325 = .ok (.laload, 1) := dk_47 (dk_at dksX48_deposits_13 22 rfl rfl)
theorem dX48_deposits_326 : decode cX48_deposits 326 = .ok (.l2i, 1) := dk_136 (dk_at dksX48_deposits_13 23 rfl rfl)
theorem dX48_deposits_327 : decode cX48_deposits 327 = .ok (.invokevirtual 980, 3) := dk_182 3 212 (dk_at dksX48_deposits_14 0 rfl rfl)
theorem dX48_deposits_330 : decode cX48_deposits 330 = .ok (.invokestatic 328, 3) := dk_184 1 72 (dk_at dksX48_deposits_14 3 rfl rfl)
theorem dX48_deposits_333 : decode cX48_deposits 333 = .ok (.goto 4, 3) := dk_167 0 4 (dk_at dksX48_deposits_14 6 rfl rfl)
theorem dX48_deposits_336 : decode cX48_deposits 336 = .ok (.lconst 0, 1) := dk_9 (dk_at dksX48_deposits_14 9 rfl rfl)
theorem dX48_deposits_337 : decode cX48_deposits 337 = .ok (.lreturn, 1) := dk_173 (dk_at dksX48_deposits_14 10 rfl rfl)
theorem dX48_deposits_338 : decode cX48_deposits 338 = .ok (.aload_n 0, 1) := dk_42 (dk_at dksX48_deposits_14 11 rfl rfl)
theorem dX48_deposits_339 : decode cX48_deposits 339 = .ok (.ldc_w 982, 3) := dk_19 3 214 (dk_at dksX48_deposits_14 12 rfl rfl)
theorem dX48_deposits_342 : decode cX48_deposits 342 = .ok (.ldc_w 984, 3) := dk_19 3 216 (dk_at dksX48_deposits_14 15 rfl rfl)
theorem dX48_deposits_345 : decode cX48_deposits 345 = .ok (.invokevirtual 263, 3) := dk_182 1 7 (dk_at dksX48_deposits_14 18 rfl rfl)
theorem dX48_deposits_348 : decode cX48_deposits 348 = .ok (.ifCond .eq 48, 3) := dk_153 0 48 (dk_at dksX48_deposits_14 21 rfl rfl)
theorem dX48_deposits_351 : decode cX48_deposits 351 = .ok (.aload_n 0, 1) := dk_42 (dk_at dksX48_deposits_15 0 rfl rfl)
theorem dX48_deposits_352 : decode cX48_deposits 352 = .ok (.getfield 167, 3) := dk_180 0 167 (dk_at dksX48_deposits_15 1 rfl rfl)
theorem dX48_deposits_355 : decode cX48_deposits 355 = .ok (.ifCond .ge 39, 3) := dk_156 0 39 (dk_at dksX48_deposits_15 4 rfl rfl)
theorem dX48_deposits_358 : decode cX48_deposits 358 = .ok (.aload_n 0, 1) := dk_42 (dk_at dksX48_deposits_15 7 rfl rfl)
theorem dX48_deposits_359 : decode cX48_deposits 359 = .ok (.getfield 72, 3) := dk_180 0 72 (dk_at dksX48_deposits_15 8 rfl rfl)
theorem dX48_deposits_362 : decode cX48_deposits 362 = .ok (.aload_n 0, 1) := dk_42 (dk_at dksX48_deposits_15 11 rfl rfl)
theorem dX48_deposits_363 : decode cX48_deposits 363 = .ok (.getfield 99, 3) := dk_180 0 99 (dk_at dksX48_deposits_15 12 rfl rfl)
theorem dX48_deposits_366 : decode cX48_deposits 366 = .ok (.iconst 0, 1) := dk_3 (dk_at dksX48_deposits_15 15 rfl rfl)
theorem dX48_deposits_367 : decode cX48_deposits 367 = .ok (.laload, 1) := dk_47 (dk_at dksX48_deposits_15 16 rfl rfl)
theorem dX48_deposits_368 : decode cX48_deposits 368 = .ok (.l2i, 1) := dk_136 (dk_at dksX48_deposits_15 17 rfl rfl)
theorem dX48_deposits_369 : decode cX48_deposits 369 = .ok (.aload_n 0, 1) := dk_42 (dk_at dksX48_deposits_15 18 rfl rfl)
theorem dX48_deposits_370 : decode cX48_deposits 370 = .ok (.getfield 99, 3) := dk_180 0 99 (dk_at dksX48_deposits_15 19 rfl rfl)
theorem dX48_deposits_373 : decode cX48_deposits 373 = .ok (.iconst 1, 1) := dk_4 (dk_at dksX48_deposits_15 22 rfl rfl)
theorem dX48_deposits_374 : decode cX48_deposits 374 = .ok (.laload, 1) := dk_47 (dk_at dksX48_deposits_15 23 rfl rfl)
theorem dX48_deposits_375 : decode cX48_deposits 375 = .ok (.lconst 1, 1) := dk_10 (dk_at dksX48_deposits_16 0 rfl rfl)
theorem dX48_deposits_376 : decode cX48_deposits 376 = .ok (.lcmp, 1) := dk_148 (dk_at dksX48_deposits_16 1 rfl rfl)
theorem dX48_deposits_377 : decode cX48_deposits 377 = .ok (.ifCond .ne 7, 3) := dk_154 0 7 (dk_at dksX48_deposits_16 2 rfl rfl)
theorem dX48_deposits_380 : decode cX48_deposits 380 = .ok (.iconst 1, 1) := dk_4 (dk_at dksX48_deposits_16 5 rfl rfl)
theorem dX48_deposits_381 : decode cX48_deposits 381 = .ok (.goto 4, 3) := dk_167 0 4 (dk_at dksX48_deposits_16 6 rfl rfl)
theorem dX48_deposits_384 : decode cX48_deposits 384 = .ok (.iconst 0, 1) := dk_3 (dk_at dksX48_deposits_16 9 rfl rfl)
theorem dX48_deposits_385 : decode cX48_deposits 385 = .ok (.invokevirtual 986, 3) := dk_182 3 218 (dk_at dksX48_deposits_16 10 rfl rfl)
theorem dX48_deposits_388 : decode cX48_deposits 388 = .ok (.invokestatic 328, 3) := dk_184 1 72 (dk_at dksX48_deposits_16 13 rfl rfl)
theorem dX48_deposits_391 : decode cX48_deposits 391 = .ok (.goto 4, 3) := dk_167 0 4 (dk_at dksX48_deposits_16 16 rfl rfl)
theorem dX48_deposits_394 : decode cX48_deposits 394 = .ok (.lconst 0, 1) := dk_9 (dk_at dksX48_deposits_16 19 rfl rfl)
theorem dX48_deposits_395 : decode cX48_deposits 395 = .ok (.lreturn, 1) := dk_173 (dk_at dksX48_deposits_16 20 rfl rfl)
theorem dX48_deposits_396 : decode cX48_deposits 396 = .ok (.aload_n 0, 1) := dk_42 (dk_at dksX48_deposits_16 21 rfl rfl)
theorem dX48_deposits_397 : decode cX48_deposits 397 = .ok (.ldc_w 989, 3) := dk_19 3 221 (dk_at dksX48_deposits_17 0 rfl rfl)
theorem dX48_deposits_400 : decode cX48_deposits 400 = .ok (.ldc_w 984, 3) := dk_19 3 216 (dk_at dksX48_deposits_17 3 rfl rfl)
theorem dX48_deposits_403 : decode cX48_deposits 403 = .ok (.invokevirtual 263, 3) := dk_182 1 7 (dk_at dksX48_deposits_17 6 rfl rfl)
theorem dX48_deposits_406 : decode cX48_deposits 406 = .ok (.ifCond .eq 48, 3) := dk_153 0 48 (dk_at dksX48_deposits_17 9 rfl rfl)
theorem dX48_deposits_409 : decode cX48_deposits 409 = .ok (.aload_n 0, 1) := dk_42 (dk_at dksX48_deposits_17 12 rfl rfl)
theorem dX48_deposits_410 : decode cX48_deposits 410 = .ok (.getfield 167, 3) := dk_180 0 167 (dk_at dksX48_deposits_17 13 rfl rfl)
theorem dX48_deposits_413 : decode cX48_deposits 413 = .ok (.ifCond .ge 39, 3) := dk_156 0 39 (dk_at dksX48_deposits_17 16 rfl rfl)
theorem dX48_deposits_416 : decode cX48_deposits 416 = .ok (.aload_n 0, 1) := dk_42 (dk_at dksX48_deposits_17 19 rfl rfl)
theorem dX48_deposits_417 : decode cX48_deposits 417 = .ok (.getfield 72, 3) := dk_180 0 72 (dk_at dksX48_deposits_17 20 rfl rfl)
theorem dX48_deposits_420 : decode cX48_deposits 420 = .ok (.aload_n 0, 1) := dk_42 (dk_at dksX48_deposits_17 23 rfl rfl)
theorem dX48_deposits_421 : decode cX48_deposits 421 = .ok (.getfield 99, 3) := dk_180 0 99 (dk_at dksX48_deposits_18 0 rfl rfl)
theorem dX48_deposits_424 : decode cX48_deposits 424 = .ok (.iconst 0, 1) := dk_3 (dk_at dksX48_deposits_18 3 rfl rfl)
theorem dX48_deposits_425 : decode cX48_deposits 425 = .ok (.laload, 1) := dk_47 (dk_at dksX48_deposits_18 4 rfl rfl)
theorem dX48_deposits_426 : decode cX48_deposits 426 = .ok (.l2i, 1) := dk_136 (dk_at dksX48_deposits_18 5 rfl rfl)
theorem dX48_deposits_427 : decode cX48_deposits 427 = .ok (.aload_n 0, 1) := dk_42 (dk_at dksX48_deposits_18 6 rfl rfl)
theorem dX48_deposits_428 : decode cX48_deposits 428 = .ok (.getfield 99, 3) := dk_180 0 99 (dk_at dksX48_deposits_18 7 rfl rfl)
theorem dX48_deposits_431 : decode cX48_deposits 431 = .ok (.iconst 1, 1) := dk_4 (dk_at dksX48_deposits_18 10 rfl rfl)
theorem dX48_deposits_432 : decode cX48_deposits 432 = .ok (.laload, 1) := dk_47 (dk_at dksX48_deposits_18 11 rfl rfl)
theorem dX48_deposits_433 : decode cX48_deposits 433 = .ok (.lconst 1, 1) := dk_10 (dk_at dksX48_deposits_18 12 rfl rfl)
theorem dX48_deposits_434 : decode cX48_deposits 434 = .ok (.lcmp, 1) := dk_148 (dk_at dksX48_deposits_18 13 rfl rfl)
theorem dX48_deposits_435 : decode cX48_deposits 435 = .ok (.ifCond .ne 7, 3) := dk_154 0 7 (dk_at dksX48_deposits_18 14 rfl rfl)
theorem dX48_deposits_438 : decode cX48_deposits 438 = .ok (.iconst 1, 1) := dk_4 (dk_at dksX48_deposits_18 17 rfl rfl)
theorem dX48_deposits_439 : decode cX48_deposits 439 = .ok (.goto 4, 3) := dk_167 0 4 (dk_at dksX48_deposits_18 18 rfl rfl)
theorem dX48_deposits_442 : decode cX48_deposits 442 = .ok (.iconst 0, 1) := dk_3 (dk_at dksX48_deposits_18 21 rfl rfl)
theorem dX48_deposits_443 : decode cX48_deposits 443 = .ok (.invokevirtual 991, 3) := dk_182 3 223 (dk_at dksX48_deposits_19 0 rfl rfl)
theorem dX48_deposits_446 : decode cX48_deposits 446 = .ok (.invokestatic 328, 3) := dk_184 1 72 (dk_at dksX48_deposits_19 3 rfl rfl)
theorem dX48_deposits_449 : decode cX48_deposits 449 = .ok (.goto 4, 3) := dk_167 0 4 (dk_at dksX48_deposits_19 6 rfl rfl)
theorem dX48_deposits_452 : decode cX48_deposits 452 = .ok (.lconst 0, 1) := dk_9 (dk_at dksX48_deposits_19 9 rfl rfl)
theorem dX48_deposits_453 : decode cX48_deposits 453 = .ok (.lreturn, 1) := dk_173 (dk_at dksX48_deposits_19 10 rfl rfl)
theorem dX48_deposits_454 : decode cX48_deposits 454 = .ok (.aload_n 0, 1) := dk_42 (dk_at dksX48_deposits_19 11 rfl rfl)
theorem dX48_deposits_455 : decode cX48_deposits 455 = .ok (.ldc_w 993, 3) := dk_19 3 225 (dk_at dksX48_deposits_19 12 rfl rfl)
theorem dX48_deposits_458 : decode cX48_deposits 458 = .ok (.ldc_w 303, 3) := dk_19 1 47 (dk_at dksX48_deposits_19 15 rfl rfl)
theorem dX48_deposits_461 : decode cX48_deposits 461 = .ok (.invokevirtual 263, 3) := dk_182 1 7 (dk_at dksX48_deposits_19 18 rfl rfl)
theorem dX48_deposits_464 : decode cX48_deposits 464 = .ok (.ifCond .eq 56, 3) := dk_153 0 56 (dk_at dksX48_deposits_19 21 rfl rfl)
theorem dX48_deposits_467 : decode cX48_deposits 467 = .ok (.aload_n 0, 1) := dk_42 (dk_at dksX48_deposits_20 0 rfl rfl)
theorem dX48_deposits_468 : decode cX48_deposits 468 = .ok (.getfield 167, 3) := dk_180 0 167 (dk_at dksX48_deposits_20 1 rfl rfl)
theorem dX48_deposits_471 : decode cX48_deposits 471 = .ok (.ifCond .ge 47, 3) := dk_156 0 47 (dk_at dksX48_deposits_20 4 rfl rfl)
theorem dX48_deposits_474 : decode cX48_deposits 474 = .ok (.aload_n 0, 1) := dk_42 (dk_at dksX48_deposits_20 7 rfl rfl)
theorem dX48_deposits_475 : decode cX48_deposits 475 = .ok (.getfield 72, 3) := dk_180 0 72 (dk_at dksX48_deposits_20 8 rfl rfl)
theorem dX48_deposits_478 : decode cX48_deposits 478 = .ok (.aload_n 0, 1) := dk_42 (dk_at dksX48_deposits_20 11 rfl rfl)
theorem dX48_deposits_479 : decode cX48_deposits 479 = .ok (.getfield 99, 3) := dk_180 0 99 (dk_at dksX48_deposits_20 12 rfl rfl)
theorem dX48_deposits_482 : decode cX48_deposits 482 = .ok (.iconst 0, 1) := dk_3 (dk_at dksX48_deposits_20 15 rfl rfl)
theorem dX48_deposits_483 : decode cX48_deposits 483 = .ok (.laload, 1) := dk_47 (dk_at dksX48_deposits_20 16 rfl rfl)
theorem dX48_deposits_484 : decode cX48_deposits 484 = .ok (.l2i, 1) := dk_136 (dk_at dksX48_deposits_20 17 rfl rfl)
theorem dX48_deposits_485 : decode cX48_deposits 485 = .ok (.aload_n 0, 1) := dk_42 (dk_at dksX48_deposits_20 18 rfl rfl)
theorem dX48_deposits_486 : decode cX48_deposits 486 = .ok (.getfield 99, 3) := dk_180 0 99 (dk_at dksX48_deposits_20 19 rfl rfl)
theorem dX48_deposits_489 : decode cX48_deposits 489 = .ok (.iconst 1, 1) := dk_4 (dk_at dksX48_deposits_20 22 rfl rfl)
theorem dX48_deposits_490 : decode cX48_deposits 490 = .ok (.laload, 1) := dk_47 (dk_at dksX48_deposits_20 23 rfl rfl)
theorem dX48_deposits_491 : decode cX48_deposits 491 = .ok (.aload_n 0, 1) := dk_42 (dk_at dksX48_deposits_21 0 rfl rfl)
theorem dX48_deposits_492 : decode cX48_deposits 492 = .ok (.getfield 99, 3) := dk_180 0 99 (dk_at dksX48_deposits_21 1 rfl rfl)
theorem dX48_deposits_495 : decode cX48_deposits 495 = .ok (.iconst 2, 1) := dk_5 (dk_at dksX48_deposits_21 4 rfl rfl)
theorem dX48_deposits_496 : decode cX48_deposits 496 = .ok (.laload, 1) := dk_47 (dk_at dksX48_deposits_21 5 rfl rfl)
theorem dX48_deposits_497 : decode cX48_deposits 497 = .ok (.l2i, 1) := dk_136 (dk_at dksX48_deposits_21 6 rfl rfl)
theorem dX48_deposits_498 : decode cX48_deposits 498 = .ok (.aload_n 0, 1) := dk_42 (dk_at dksX48_deposits_21 7 rfl rfl)
theorem dX48_deposits_499 : decode cX48_deposits 499 = .ok (.getfield 99, 3) := dk_180 0 99 (dk_at dksX48_deposits_21 8 rfl rfl)
theorem dX48_deposits_502 : decode cX48_deposits 502 = .ok (.iconst 3, 1) := dk_6 (dk_at dksX48_deposits_21 11 rfl rfl)
theorem dX48_deposits_503 : decode cX48_deposits 503 = .ok (.laload, 1) := dk_47 (dk_at dksX48_deposits_21 12 rfl rfl)
theorem dX48_deposits_504 : decode cX48_deposits 504 = .ok (.l2i, 1) := dk_136 (dk_at dksX48_deposits_21 13 rfl rfl)
theorem dX48_deposits_505 : decode cX48_deposits 505 = .ok (.aload_n 0, 1) := dk_42 (dk_at dksX48_deposits_21 14 rfl rfl)
theorem dX48_deposits_506 : decode cX48_deposits 506 = .ok (.getfield 99, 3) := dk_180 0 99 (dk_at dksX48_deposits_21 15 rfl rfl)
theorem dX48_deposits_509 : decode cX48_deposits 509 = .ok (.iconst 4, 1) := dk_7 (dk_at dksX48_deposits_21 18 rfl rfl)
theorem dX48_deposits_510 : decode cX48_deposits 510 = .ok (.laload, 1) := dk_47 (dk_at dksX48_deposits_21 19 rfl rfl)
theorem dX48_deposits_511 : decode cX48_deposits 511 = .ok (.invokevirtual 439, 3) := dk_182 1 183 (dk_at dksX48_deposits_21 20 rfl rfl)
theorem dX48_deposits_514 : decode cX48_deposits 514 = .ok (.i2l, 1) := dk_133 (dk_at dksX48_deposits_21 23 rfl rfl)
theorem dX48_deposits_515 : decode cX48_deposits 515 = .ok (.goto 4, 3) := dk_167 0 4 (dk_at dksX48_deposits_22 0 rfl rfl)
theorem dX48_deposits_518 : decode cX48_deposits 518 = .ok (.lconst 0, 1) := dk_9 (dk_at dksX48_deposits_22 3 rfl rfl)
theorem dX48_deposits_519 : decode cX48_deposits 519 = .ok (.lreturn, 1) := dk_173 (dk_at dksX48_deposits_22 4 rfl rfl)
theorem dX48_deposits_520 : decode cX48_deposits 520 = .ok (.aload_n 0, 1) := dk_42 (dk_at dksX48_deposits_22 5 rfl rfl)
theorem dX48_deposits_521 : decode cX48_deposits 521 = .ok (.ldc_w 994, 3) := dk_19 3 226 (dk_at dksX48_deposits_22 6 rfl rfl)
theorem dX48_deposits_524 : decode cX48_deposits 524 = .ok (.ldc_w 272, 3) := dk_19 1 16 (dk_at dksX48_deposits_22 9 rfl rfl)
theorem dX48_deposits_527 : decode cX48_deposits 527 = .ok (.invokevirtual 263, 3) := dk_182 1 7 (dk_at dksX48_deposits_22 12 rfl rfl)
theorem dX48_deposits_530 : decode cX48_deposits 530 = .ok (.ifCond .eq 23, 3) := dk_153 0 23 (dk_at dksX48_deposits_22 15 rfl rfl)
theorem dX48_deposits_533 : decode cX48_deposits 533 = .ok (.aload_n 0, 1) := dk_42 (dk_at dksX48_deposits_22 18 rfl rfl)
theorem dX48_deposits_534 : decode cX48_deposits 534 = .ok (.getfield 167, 3) := dk_180 0 167 (dk_at dksX48_deposits_22 19 rfl rfl)
theorem dX48_deposits_537 : decode cX48_deposits 537 = .ok (.ifCond .ge 14, 3) := dk_156 0 14 (dk_at dksX48_deposits_23 0 rfl rfl)
theorem dX48_deposits_540 : decode cX48_deposits 540 = .ok (.aload_n 0, 1) := dk_42 (dk_at dksX48_deposits_23 3 rfl rfl)
theorem dX48_deposits_541 : decode cX48_deposits 541 = .ok (.getfield 72, 3) := dk_180 0 72 (dk_at dksX48_deposits_23 4 rfl rfl)
theorem dX48_deposits_544 : decode cX48_deposits 544 = .ok (.invokevirtual 996, 3) := dk_182 3 228 (dk_at dksX48_deposits_23 7 rfl rfl)
theorem dX48_deposits_547 : decode cX48_deposits 547 = .ok (.i2l, 1) := dk_133 (dk_at dksX48_deposits_23 10 rfl rfl)
theorem dX48_deposits_548 : decode cX48_deposits 548 = .ok (.goto 4, 3) := dk_167 0 4 (dk_at dksX48_deposits_23 11 rfl rfl)
theorem dX48_deposits_551 : decode cX48_deposits 551 = .ok (.lconst 0, 1) := dk_9 (dk_at dksX48_deposits_23 14 rfl rfl)
theorem dX48_deposits_552 : decode cX48_deposits 552 = .ok (.lreturn, 1) := dk_173 (dk_at dksX48_deposits_23 15 rfl rfl)
theorem dX48_deposits_553 : decode cX48_deposits 553 = .ok (.aload_n 0, 1) := dk_42 (dk_at dksX48_deposits_23 16 rfl rfl)
theorem dX48_deposits_554 : decode cX48_deposits 554 = .ok (.ldc_w 998, 3) := dk_19 3 230 (dk_at dksX48_deposits_23 17 rfl rfl)
theorem dX48_deposits_557 : decode cX48_deposits 557 = .ok (.ldc_w 292, 3) := dk_19 1 36 (dk_at dksX48_deposits_23 20 rfl rfl)
theorem dX48_deposits_560 : decode cX48_deposits 560 = .ok (.invokevirtual 263, 3) := dk_182 1 7 (dk_at dksX48_deposits_24 0 rfl rfl)
theorem dX48_deposits_563 : decode cX48_deposits 563 = .ok (.ifCond .eq 36, 3) := dk_153 0 36 (dk_at dksX48_deposits_24 3 rfl rfl)
theorem dX48_deposits_566 : decode cX48_deposits 566 = .ok (.aload_n 0, 1) := dk_42 (dk_at dksX48_deposits_24 6 rfl rfl)
theorem dX48_deposits_567 : decode cX48_deposits 567 = .ok (.getfield 167, 3) := dk_180 0 167 (dk_at dksX48_deposits_24 7 rfl rfl)
theorem dX48_deposits_570 : decode cX48_deposits 570 = .ok (.ifCond .ge 27, 3) := dk_156 0 27 (dk_at dksX48_deposits_24 10 rfl rfl)
theorem dX48_deposits_573 : decode cX48_deposits 573 = .ok (.aload_n 0, 1) := dk_42 (dk_at dksX48_deposits_24 13 rfl rfl)
theorem dX48_deposits_574 : decode cX48_deposits 574 = .ok (.getfield 72, 3) := dk_180 0 72 (dk_at dksX48_deposits_24 14 rfl rfl)
theorem dX48_deposits_577 : decode cX48_deposits 577 = .ok (.aload_n 0, 1) := dk_42 (dk_at dksX48_deposits_24 17 rfl rfl)
theorem dX48_deposits_578 : decode cX48_deposits 578 = .ok (.getfield 99, 3) := dk_180 0 99 (dk_at dksX48_deposits_24 18 rfl rfl)
theorem dX48_deposits_581 : decode cX48_deposits 581 = .ok (.iconst 0, 1) := dk_3 (dk_at dksX48_deposits_24 21 rfl rfl)
theorem dX48_deposits_582 : decode cX48_deposits 582 = .ok (.laload, 1) := dk_47 (dk_at dksX48_deposits_24 22 rfl rfl)
theorem dX48_deposits_583 : decode cX48_deposits 583 = .ok (.l2i, 1) := dk_136 (dk_at dksX48_deposits_24 23 rfl rfl)
theorem dX48_deposits_584 : decode cX48_deposits 584 = .ok (.aload_n 0, 1) := dk_42 (dk_at dksX48_deposits_25 0 rfl rfl)
theorem dX48_deposits_585 : decode cX48_deposits 585 = .ok (.getfield 99, 3) := dk_180 0 99 (dk_at dksX48_deposits_25 1 rfl rfl)
theorem dX48_deposits_588 : decode cX48_deposits 588 = .ok (.iconst 1, 1) := dk_4 (dk_at dksX48_deposits_25 4 rfl rfl)
theorem dX48_deposits_589 : decode cX48_deposits 589 = .ok (.laload, 1) := dk_47 (dk_at dksX48_deposits_25 5 rfl rfl)
theorem dX48_deposits_590 : decode cX48_deposits 590 = .ok (.l2i, 1) := dk_136 (dk_at dksX48_deposits_25 6 rfl rfl)
theorem dX48_deposits_591 : decode cX48_deposits 591 = .ok (.invokevirtual 1000, 3) := dk_182 3 232 (dk_at dksX48_deposits_25 7 rfl rfl)
theorem dX48_deposits_594 : decode cX48_deposits 594 = .ok (.goto 4, 3) := dk_167 0 4 (dk_at dksX48_deposits_25 10 rfl rfl)
theorem dX48_deposits_597 : decode cX48_deposits 597 = .ok (.lconst 0, 1) := dk_9 (dk_at dksX48_deposits_25 13 rfl rfl)
theorem dX48_deposits_598 : decode cX48_deposits 598 = .ok (.lreturn, 1) := dk_173 (dk_at dksX48_deposits_25 14 rfl rfl)
theorem dX48_deposits_599 : decode cX48_deposits 599 = .ok (.aload_n 0, 1) := dk_42 (dk_at dksX48_deposits_25 15 rfl rfl)
theorem dX48_deposits_600 : decode cX48_deposits 600 = .ok (.ldc_w 525, 3) := dk_19 2 13 (dk_at dksX48_deposits_25 16 rfl rfl)
theorem dX48_deposits_603 : decode cX48_deposits 603 = .ok (.ldc_w 292, 3) := dk_19 1 36 (dk_at dksX48_deposits_25 19 rfl rfl)
theorem dX48_deposits_606 : decode cX48_deposits 606 = .ok (.invokevirtual 263, 3) := dk_182 1 7 (dk_at dksX48_deposits_26 0 rfl rfl)
theorem dX48_deposits_609 : decode cX48_deposits 609 = .ok (.ifCond .eq 37, 3) := dk_153 0 37 (dk_at dksX48_deposits_26 3 rfl rfl)
theorem dX48_deposits_612 : decode cX48_deposits 612 = .ok (.aload_n 0, 1) := dk_42 (dk_at dksX48_deposits_26 6 rfl rfl)
theorem dX48_deposits_613 : decode cX48_deposits 613 = .ok (.getfield 167, 3) := dk_180 0 167 (dk_at dksX48_deposits_26 7 rfl rfl)
theorem dX48_deposits_616 : decode cX48_deposits 616 = .ok (.ifCond .ge 28, 3) := dk_156 0 28 (dk_at dksX48_deposits_26 10 rfl rfl)
theorem dX48_deposits_619 : decode cX48_deposits 619 = .ok (.aload_n 0, 1) := dk_42 (dk_at dksX48_deposits_26 13 rfl rfl)
theorem dX48_deposits_620 : decode cX48_deposits 620 = .ok (.getfield 72, 3) := dk_180 0 72 (dk_at dksX48_deposits_26 14 rfl rfl)
theorem dX48_deposits_623 : decode cX48_deposits 623 = .ok (.aload_n 0, 1) := dk_42 (dk_at dksX48_deposits_26 17 rfl rfl)
theorem dX48_deposits_624 : decode cX48_deposits 624 = .ok (.getfield 99, 3) := dk_180 0 99 (dk_at dksX48_deposits_26 18 rfl rfl)
theorem dX48_deposits_627 : decode cX48_deposits 627 = .ok (.iconst 0, 1) := dk_3 (dk_at dksX48_deposits_26 21 rfl rfl)
theorem dX48_deposits_628 : decode cX48_deposits 628 = .ok (.laload, 1) := dk_47 (dk_at dksX48_deposits_26 22 rfl rfl)
theorem dX48_deposits_629 : decode cX48_deposits 629 = .ok (.l2i, 1) := dk_136 (dk_at dksX48_deposits_26 23 rfl rfl)
theorem dX48_deposits_630 : decode cX48_deposits 630 = .ok (.aload_n 0, 1) := dk_42 (dk_at dksX48_deposits_27 0 rfl rfl)
theorem dX48_deposits_631 : decode cX48_deposits 631 = .ok (.getfield 99, 3) := dk_180 0 99 (dk_at dksX48_deposits_27 1 rfl rfl)
theorem dX48_deposits_634 : decode cX48_deposits 634 = .ok (.iconst 1, 1) := dk_4 (dk_at dksX48_deposits_27 4 rfl rfl)
theorem dX48_deposits_635 : decode cX48_deposits 635 = .ok (.laload, 1) := dk_47 (dk_at dksX48_deposits_27 5 rfl rfl)
theorem dX48_deposits_636 : decode cX48_deposits 636 = .ok (.l2i, 1) := dk_136 (dk_at dksX48_deposits_27 6 rfl rfl)
theorem dX48_deposits_637 : decode cX48_deposits 637 = .ok (.invokevirtual 1002, 3) := dk_182 3 234 (dk_at dksX48_deposits_27 7 rfl rfl)
theorem dX48_deposits_640 : decode cX48_deposits 640 = .ok (.i2l, 1) := dk_133 (dk_at dksX48_deposits_27 10 rfl rfl)
theorem dX48_deposits_641 : decode cX48_deposits 641 = .ok (.goto 4, 3) := dk_167 0 4 (dk_at dksX48_deposits_27 11 rfl rfl)
theorem dX48_deposits_644 : decode cX48_deposits 644 = .ok (.lconst 0, 1) := dk_9 (dk_at dksX48_deposits_27 14 rfl rfl)
theorem dX48_deposits_645 : decode cX48_deposits 645 = .ok (.lreturn, 1) := dk_173 (dk_at dksX48_deposits_27 15 rfl rfl)
theorem dX48_deposits_646 : decode cX48_deposits 646 = .ok (.aload_n 0, 1) := dk_42 (dk_at dksX48_deposits_27 16 rfl rfl)
theorem dX48_deposits_647 : decode cX48_deposits 647 = .ok (.ldc_w 1004, 3) := dk_19 3 236 (dk_at dksX48_deposits_27 17 rfl rfl)
theorem dX48_deposits_650 : decode cX48_deposits 650 = .ok (.ldc_w 292, 3) := dk_19 1 36 (dk_at dksX48_deposits_27 20 rfl rfl)
theorem dX48_deposits_653 : decode cX48_deposits 653 = .ok (.invokevirtual 263, 3) := dk_182 1 7 (dk_at dksX48_deposits_28 0 rfl rfl)
theorem dX48_deposits_656 : decode cX48_deposits 656 = .ok (.ifCond .eq 37, 3) := dk_153 0 37 (dk_at dksX48_deposits_28 3 rfl rfl)
theorem dX48_deposits_659 : decode cX48_deposits 659 = .ok (.aload_n 0, 1) := dk_42 (dk_at dksX48_deposits_28 6 rfl rfl)
theorem dX48_deposits_660 : decode cX48_deposits 660 = .ok (.getfield 167, 3) := dk_180 0 167 (dk_at dksX48_deposits_28 7 rfl rfl)
theorem dX48_deposits_663 : decode cX48_deposits 663 = .ok (.ifCond .ge 28, 3) := dk_156 0 28 (dk_at dksX48_deposits_28 10 rfl rfl)
theorem dX48_deposits_666 : decode cX48_deposits 666 = .ok (.aload_n 0, 1) := dk_42 (dk_at dksX48_deposits_28 13 rfl rfl)
theorem dX48_deposits_667 : decode cX48_deposits 667 = .ok (.getfield 72, 3) := dk_180 0 72 (dk_at dksX48_deposits_28 14 rfl rfl)
theorem dX48_deposits_670 : decode cX48_deposits 670 = .ok (.aload_n 0, 1) := dk_42 (dk_at dksX48_deposits_28 17 rfl rfl)
theorem dX48_deposits_671 : decode cX48_deposits 671 = .ok (.getfield 99, 3) := dk_180 0 99 (dk_at dksX48_deposits_28 18 rfl rfl)
theorem dX48_deposits_674 : decode cX48_deposits 674 = .ok (.iconst 0, 1) := dk_3 (dk_at dksX48_deposits_28 21 rfl rfl)
theorem dX48_deposits_675 : decode cX48_deposits 675 = .ok (.laload, 1) := dk_47 (dk_at dksX48_deposits_28 22 rfl rfl)
theorem dX48_deposits_676 : decode cX48_deposits 676 = .ok (.l2i, 1) := dk_136 (dk_at dksX48_deposits_28 23 rfl rfl)
theorem dX48_deposits_677 : decode cX48_deposits 677 = .ok (.aload_n 0, 1) := dk_42 (dk_at dksX48_deposits_29 0 rfl rfl)
theorem dX48_deposits_678 : decode cX48_deposits 678 = .ok (.getfield 99, 3) := dk_180 0 99 (dk_at dksX48_deposits_29 1 rfl rfl)
theorem dX48_deposits_681 : decode cX48_deposits 681 = .ok (.iconst 1, 1) := dk_4 (dk_at dksX48_deposits_29 4 rfl rfl)
theorem dX48_deposits_682 : decode cX48_deposits 682 = .ok (.laload, 1) := dk_47 (dk_at dksX48_deposits_29 5 rfl rfl)
theorem dX48_deposits_683 : decode cX48_deposits 683 = .ok (.l2i, 1) := dk_136 (dk_at dksX48_deposits_29 6 rfl rfl)
theorem dX48_deposits_684 : decode cX48_deposits 684 = .ok (.invokevirtual 1006, 3) := dk_182 3 238 (dk_at dksX48_deposits_29 7 rfl rfl)
theorem dX48_deposits_687 : decode cX48_deposits 687 = .ok (.i2l, 1) := dk_133 (dk_at dksX48_deposits_29 10 rfl rfl)
theorem dX48_deposits_688 : decode cX48_deposits 688 = .ok (.goto 4, 3) := dk_167 0 4 (dk_at dksX48_deposits_29 11 rfl rfl)
theorem dX48_deposits_691 : decode cX48_deposits 691 = .ok (.lconst 0, 1) := dk_9 (dk_at dksX48_deposits_29 14 rfl rfl)
theorem dX48_deposits_692 : decode cX48_deposits 692 = .ok (.lreturn, 1) := dk_173 (dk_at dksX48_deposits_29 15 rfl rfl)
theorem dX48_deposits_693 : decode cX48_deposits 693 = .ok (.aload_n 0, 1) := dk_42 (dk_at dksX48_deposits_29 16 rfl rfl)
theorem dX48_deposits_694 : decode cX48_deposits 694 = .ok (.ldc_w 612, 3) := dk_19 2 100 (dk_at dksX48_deposits_29 17 rfl rfl)
theorem dX48_deposits_697 : decode cX48_deposits 697 = .ok (.ldc_w 731, 3) := dk_19 2 219 (dk_at dksX48_deposits_29 20 rfl rfl)
theorem dX48_deposits_700 : decode cX48_deposits 700 = .ok (.invokevirtual 263, 3) := dk_182 1 7 (dk_at dksX48_deposits_30 0 rfl rfl)
theorem dX48_deposits_703 : decode cX48_deposits 703 = .ok (.ifCond .eq 43, 3) := dk_153 0 43 (dk_at dksX48_deposits_30 3 rfl rfl)
theorem dX48_deposits_706 : decode cX48_deposits 706 = .ok (.aload_n 0, 1) := dk_42 (dk_at dksX48_deposits_30 6 rfl rfl)
theorem dX48_deposits_707 : decode cX48_deposits 707 = .ok (.getfield 167, 3) := dk_180 0 167 (dk_at dksX48_deposits_30 7 rfl rfl)
theorem dX48_deposits_710 : decode cX48_deposits 710 = .ok (.ifCond .ge 34, 3) := dk_156 0 34 (dk_at dksX48_deposits_30 10 rfl rfl)
theorem dX48_deposits_713 : decode cX48_deposits 713 = .ok (.aload_n 0, 1) := dk_42 (dk_at dksX48_deposits_30 13 rfl rfl)
theorem dX48_deposits_714 : decode cX48_deposits 714 = .ok (.getfield 72, 3) := dk_180 0 72 (dk_at dksX48_deposits_30 14 rfl rfl)
theorem dX48_deposits_717 : decode cX48_deposits 717 = .ok (.aload_n 0, 1) := dk_42 (dk_at dksX48_deposits_30 17 rfl rfl)
theorem dX48_deposits_718 : decode cX48_deposits 718 = .ok (.getfield 99, 3) := dk_180 0 99 (dk_at dksX48_deposits_30 18 rfl rfl)
theorem dX48_deposits_721 : decode cX48_deposits 721 = .ok (.iconst 0, 1) := dk_3 (dk_at dksX48_deposits_30 21 rfl rfl)
theorem dX48_deposits_722 : decode cX48_deposits 722 = .ok (.laload, 1) := dk_47 (dk_at dksX48_deposits_30 22 rfl rfl)
theorem dX48_deposits_723 : decode cX48_deposits 723 = .ok (.aload_n 0, 1) := dk_42 (dk_at dksX48_deposits_30 23 rfl rfl)
theorem dX48_deposits_724 : decode cX48_deposits 724 = .ok (.getfield 99, 3) := dk_180 0 99 (dk_at dksX48_deposits_31 0 rfl rfl)
theorem dX48_deposits_727 : decode cX48_deposits 727 = .ok (.iconst 1, 1) := dk_4 (dk_at dksX48_deposits_31 3 rfl rfl)
theorem dX48_deposits_728 : decode cX48_deposits 728 = .ok (.laload, 1) := dk_47 (dk_at dksX48_deposits_31 4 rfl rfl)
theorem dX48_deposits_729 : decode cX48_deposits 729 = .ok (.aload_n 0, 1) := dk_42 (dk_at dksX48_deposits_31 5 rfl rfl)
theorem dX48_deposits_730 : decode cX48_deposits 730 = .ok (.getfield 99, 3) := dk_180 0 99 (dk_at dksX48_deposits_31 6 rfl rfl)
theorem dX48_deposits_733 : decode cX48_deposits 733 = .ok (.iconst 2, 1) := dk_5 (dk_at dksX48_deposits_31 9 rfl rfl)
theorem dX48_deposits_734 : decode cX48_deposits 734 = .ok (.laload, 1) := dk_47 (dk_at dksX48_deposits_31 10 rfl rfl)
theorem dX48_deposits_735 : decode cX48_deposits 735 = .ok (.invokevirtual 1009, 3) := dk_182 3 241 (dk_at dksX48_deposits_31 11 rfl rfl)
theorem dX48_deposits_738 : decode cX48_deposits 738 = .ok (.invokestatic 328, 3) := dk_184 1 72 (dk_at dksX48_deposits_31 14 rfl rfl)
theorem dX48_deposits_741 : decode cX48_deposits 741 = .ok (.goto 4, 3) := dk_167 0 4 (dk_at dksX48_deposits_31 17 rfl rfl)
theorem dX48_deposits_744 : decode cX48_deposits 744 = .ok (.lconst 0, 1) := dk_9 (dk_at dksX48_deposits_31 20 rfl rfl)
theorem dX48_deposits_745 : decode cX48_deposits 745 = .ok (.lreturn, 1) := dk_173 (dk_at dksX48_deposits_31 21 rfl rfl)
theorem dX48_deposits_746 : decode cX48_deposits 746 = .ok (.aload_n 0, 1) := dk_42 (dk_at dksX48_deposits_31 22 rfl rfl)
theorem dX48_deposits_747 : decode cX48_deposits 747 = .ok (.ldc_w 1011, 3) := dk_19 3 243 (dk_at dksX48_deposits_32 0 rfl rfl)
theorem dX48_deposits_750 : decode cX48_deposits 750 = .ok (.ldc_w 278, 3) := dk_19 1 22 (dk_at dksX48_deposits_32 3 rfl rfl)
theorem dX48_deposits_753 : decode cX48_deposits 753 = .ok (.invokevirtual 263, 3) := dk_182 1 7 (dk_at dksX48_deposits_32 6 rfl rfl)
theorem dX48_deposits_756 : decode cX48_deposits 756 = .ok (.ifCond .eq 30, 3) := dk_153 0 30 (dk_at dksX48_deposits_32 9 rfl rfl)
theorem dX48_deposits_759 : decode cX48_deposits 759 = .ok (.aload_n 0, 1) := dk_42 (dk_at dksX48_deposits_32 12 rfl rfl)
theorem dX48_deposits_760 : decode cX48_deposits 760 = .ok (.getfield 167, 3) := dk_180 0 167 (dk_at dksX48_deposits_32 13 rfl rfl)
theorem dX48_deposits_763 : decode cX48_deposits 763 = .ok (.ifCond .ge 21, 3) := dk_156 0 21 (dk_at dksX48_deposits_32 16 rfl rfl)
theorem dX48_deposits_766 : decode cX48_deposits 766 = .ok (.aload_n 0, 1) := dk_42 (dk_at dksX48_deposits_32 19 rfl rfl)
theorem dX48_deposits_767 : decode cX48_deposits 767 = .ok (.getfield 72, 3) := dk_180 0 72 (dk_at dksX48_deposits_32 20 rfl rfl)
theorem dX48_deposits_770 : decode cX48_deposits 770 = .ok (.aload_n 0, 1) := dk_42 (dk_at dksX48_deposits_32 23 rfl rfl)
theorem dX48_deposits_771 : decode cX48_deposits 771 = .ok (.getfield 99, 3) := dk_180 0 99 (dk_at dksX48_deposits_33 0 rfl rfl)
theorem dX48_deposits_774 : decode cX48_deposits 774 = .ok (.iconst 0, 1) := dk_3 (dk_at dksX48_deposits_33 3 rfl rfl)
theorem dX48_deposits_775 : decode cX48_deposits 775 = .ok (.laload, 1) := dk_47 (dk_at dksX48_deposits_33 4 rfl rfl)
theorem dX48_deposits_776 : decode cX48_deposits 776 = .ok (.l2i, 1) := dk_136 (dk_at dksX48_deposits_33 5 rfl rfl)
theorem dX48_deposits_777 : decode cX48_deposits 777 = .ok (.invokevirtual 1013, 3) := dk_182 3 245 (dk_at dksX48_deposits_33 6 rfl rfl)
theorem dX48_deposits_780 : decode cX48_deposits 780 = .ok (.i2l, 1) := dk_133 (dk_at dksX48_deposits_33 9 rfl rfl)
theorem dX48_deposits_781 : decode cX48_deposits 781 = .ok (.goto 4, 3) := dk_167 0 4 (dk_at dksX48_deposits_33 10 rfl rfl)
theorem dX48_deposits_784 : decode cX48_deposits 784 = .ok (.lconst 0, 1) := dk_9 (dk_at dksX48_deposits_33 13 rfl rfl)
theorem dX48_deposits_785 : decode cX48_deposits 785 = .ok (.lreturn, 1) := dk_173 (dk_at dksX48_deposits_33 14 rfl rfl)
theorem dX48_deposits_786 : decode cX48_deposits 786 = .ok (.aload_n 0, 1) := dk_42 (dk_at dksX48_deposits_33 15 rfl rfl)
theorem dX48_deposits_787 : decode cX48_deposits 787 = .ok (.ldc_w 1015, 3) := dk_19 3 247 (dk_at dksX48_deposits_33 16 rfl rfl)
theorem dX48_deposits_790 : decode cX48_deposits 790 = .ok (.ldc_w 292, 3) := dk_19 1 36 (dk_at dksX48_deposits_33 19 rfl rfl)
theorem dX48_deposits_793 : decode cX48_deposits 793 = .ok (.invokevirtual 263, 3) := dk_182 1 7 (dk_at dksX48_deposits_34 0 rfl rfl)
theorem dX48_deposits_796 : decode cX48_deposits 796 = .ok (.ifCond .eq 39, 3) := dk_153 0 39 (dk_at dksX48_deposits_34 3 rfl rfl)
theorem dX48_deposits_799 : decode cX48_deposits 799 = .ok (.aload_n 0, 1) := dk_42 (dk_at dksX48_deposits_34 6 rfl rfl)
theorem dX48_deposits_800 : decode cX48_deposits 800 = .ok (.getfield 167, 3) := dk_180 0 167 (dk_at dksX48_deposits_34 7 rfl rfl)
theorem dX48_deposits_803 : decode cX48_deposits 803 = .ok (.ifCond .ge 30, 3) := dk_156 0 30 (dk_at dksX48_deposits_34 10 rfl rfl)
theorem dX48_deposits_806 : decode cX48_deposits 806 = .ok (.aload_n 0, 1) := dk_42 (dk_at dksX48_deposits_34 13 rfl rfl)
theorem dX48_deposits_807 : decode cX48_deposits 807 = .ok (.getfield 72, 3) := dk_180 0 72 (dk_at dksX48_deposits_34 14 rfl rfl)
theorem dX48_deposits_810 : decode cX48_deposits 810 = .ok (.aload_n 0, 1) := dk_42 (dk_at dksX48_deposits_34 17 rfl rfl)
theorem dX48_deposits_811 : decode cX48_deposits 811 = .ok (.getfield 99, 3) := dk_180 0 99 (dk_at dksX48_deposits_34 18 rfl rfl)
theorem dX48_deposits_814 : decode cX48_deposits 814 = .ok (.iconst 0, 1) := dk_3 (dk_at dksX48_deposits_34 21 rfl rfl)
theorem dX48_deposits_815 : decode cX48_deposits 815 = .ok (.laload, 1) := dk_47 (dk_at dksX48_deposits_34 22 rfl rfl)
theorem dX48_deposits_816 : decode cX48_deposits 816 = .ok (.l2i, 1) := dk_136 (dk_at dksX48_deposits_34 23 rfl rfl)
theorem dX48_deposits_817 : decode cX48_deposits 817 = .ok (.aload_n 0, 1) := dk_42 (dk_at dksX48_deposits_35 0 rfl rfl)
theorem dX48_deposits_818 : decode cX48_deposits 818 = .ok (.getfield 99, 3) := dk_180 0 99 (dk_at dksX48_deposits_35 1 rfl rfl)
theorem dX48_deposits_821 : decode cX48_deposits 821 = .ok (.iconst 1, 1) := dk_4 (dk_at dksX48_deposits_35 4 rfl rfl)
theorem dX48_deposits_822 : decode cX48_deposits 822 = .ok (.laload, 1) := dk_47 (dk_at dksX48_deposits_35 5 rfl rfl)
theorem dX48_deposits_823 : decode cX48_deposits 823 = .ok (.l2i, 1) := dk_136 (dk_at dksX48_deposits_35 6 rfl rfl)
theorem dX48_deposits_824 : decode cX48_deposits 824 = .ok (.invokevirtual 1017, 3) := dk_182 3 249 (dk_at dksX48_deposits_35 7 rfl rfl)
theorem dX48_deposits_827 : decode cX48_deposits 827 = .ok (.invokestatic 328, 3) := dk_184 1 72 (dk_at dksX48_deposits_35 10 rfl rfl)
theorem dX48_deposits_830 : decode cX48_deposits 830 = .ok (.goto 4, 3) := dk_167 0 4 (dk_at dksX48_deposits_35 13 rfl rfl)
theorem dX48_deposits_833 : decode cX48_deposits 833 = .ok (.lconst 0, 1) := dk_9 (dk_at dksX48_deposits_35 16 rfl rfl)
theorem dX48_deposits_834 : decode cX48_deposits 834 = .ok (.lreturn, 1) := dk_173 (dk_at dksX48_deposits_35 17 rfl rfl)
theorem dX48_deposits_835 : decode cX48_deposits 835 = .ok (.aload_n 0, 1) := dk_42 (dk_at dksX48_deposits_35 18 rfl rfl)
theorem dX48_deposits_836 : decode cX48_deposits 836 = .ok (.ldc_w 1019, 3) := dk_19 3 251 (dk_at dksX48_deposits_35 19 rfl rfl)
theorem dX48_deposits_839 : decode cX48_deposits 839 = .ok (.ldc_w 278, 3) := dk_19 1 22 (dk_at dksX48_deposits_36 0 rfl rfl)
theorem dX48_deposits_842 : decode cX48_deposits 842 = .ok (.invokevirtual 263, 3) := dk_182 1 7 (dk_at dksX48_deposits_36 3 rfl rfl)
theorem dX48_deposits_845 : decode cX48_deposits 845 = .ok (.ifCond .eq 29, 3) := dk_153 0 29 (dk_at dksX48_deposits_36 6 rfl rfl)
theorem dX48_deposits_848 : decode cX48_deposits 848 = .ok (.aload_n 0, 1) := dk_42 (dk_at dksX48_deposits_36 9 rfl rfl)
theorem dX48_deposits_849 : decode cX48_deposits 849 = .ok (.getfield 167, 3) := dk_180 0 167 (dk_at dksX48_deposits_36 10 rfl rfl)
theorem dX48_deposits_852 : decode cX48_deposits 852 = .ok (.ifCond .ge 20, 3) := dk_156 0 20 (dk_at dksX48_deposits_36 13 rfl rfl)
theorem dX48_deposits_855 : decode cX48_deposits 855 = .ok (.aload_n 0, 1) := dk_42 (dk_at dksX48_deposits_36 16 rfl rfl)
theorem dX48_deposits_856 : decode cX48_deposits 856 = .ok (.getfield 72, 3) := dk_180 0 72 (dk_at dksX48_deposits_36 17 rfl rfl)
theorem dX48_deposits_859 : decode cX48_deposits 859 = .ok (.aload_n 0, 1) := dk_42 (dk_at dksX48_deposits_36 20 rfl rfl)
theorem dX48_deposits_860 : decode cX48_deposits 860 = .ok (.getfield 99, 3) := dk_180 0 99 (dk_at dksX48_deposits_36 21 rfl rfl)
theorem dX48_deposits_863 : decode cX48_deposits 863 = .ok (.iconst 0, 1) := dk_3 (dk_at dksX48_deposits_37 0 rfl rfl)
theorem dX48_deposits_864 : decode cX48_deposits 864 = .ok (.laload, 1) := dk_47 (dk_at dksX48_deposits_37 1 rfl rfl)
theorem dX48_deposits_865 : decode cX48_deposits 865 = .ok (.l2i, 1) := dk_136 (dk_at dksX48_deposits_37 2 rfl rfl)
theorem dX48_deposits_866 : decode cX48_deposits 866 = .ok (.invokevirtual 1021, 3) := dk_182 3 253 (dk_at dksX48_deposits_37 3 rfl rfl)
theorem dX48_deposits_869 : decode cX48_deposits 869 = .ok (.goto 4, 3) := dk_167 0 4 (dk_at dksX48_deposits_37 6 rfl rfl)
theorem dX48_deposits_872 : decode cX48_deposits 872 = .ok (.lconst 0, 1) := dk_9 (dk_at dksX48_deposits_37 9 rfl rfl)
theorem dX48_deposits_873 : decode cX48_deposits 873 = .ok (.lreturn, 1) := dk_173 (dk_at dksX48_deposits_37 10 rfl rfl)
theorem dX48_deposits_874 : decode cX48_deposits 874 = .ok (.aload_n 0, 1) := dk_42 (dk_at dksX48_deposits_37 11 rfl rfl)
theorem dX48_deposits_875 : decode cX48_deposits 875 = .ok (.ldc_w 592, 3) := dk_19 2 80 (dk_at dksX48_deposits_37 12 rfl rfl)
theorem dX48_deposits_878 : decode cX48_deposits 878 = .ok (.ldc_w 278, 3) := dk_19 1 22 (dk_at dksX48_deposits_37 15 rfl rfl)
theorem dX48_deposits_881 : decode cX48_deposits 881 = .ok (.invokevirtual 263, 3) := dk_182 1 7 (dk_at dksX48_deposits_37 18 rfl rfl)
theorem dX48_deposits_884 : decode cX48_deposits 884 = .ok (.ifCond .eq 30, 3) := dk_153 0 30 (dk_at dksX48_deposits_37 21 rfl rfl)
theorem dX48_deposits_887 : decode cX48_deposits 887 = .ok (.aload_n 0, 1) := dk_42 (dk_at dksX48_deposits_38 0 rfl rfl)
theorem dX48_deposits_888 : decode cX48_deposits 888 = .ok (.getfield 167, 3) := dk_180 0 167 (dk_at dksX48_deposits_38 1 rfl rfl)
theorem dX48_deposits_891 : decode cX48_deposits 891 = .ok (.ifCond .ge 21, 3) := dk_156 0 21 (dk_at dksX48_deposits_38 4 rfl rfl)
theorem dX48_deposits_894 : decode cX48_deposits 894 = .ok (.aload_n 0, 1) := dk_42 (dk_at dksX48_deposits_38 7 rfl rfl)
theorem dX48_deposits_895 : decode cX48_deposits 895 = .ok (.getfield 72, 3) := dk_180 0 72 (dk_at dksX48_deposits_38 8 rfl rfl)
theorem dX48_deposits_898 : decode cX48_deposits 898 = .ok (.aload_n 0, 1) := dk_42 (dk_at dksX48_deposits_38 11 rfl rfl)
theorem dX48_deposits_899 : decode cX48_deposits 899 = .ok (.getfield 99, 3) := dk_180 0 99 (dk_at dksX48_deposits_38 12 rfl rfl)
theorem dX48_deposits_902 : decode cX48_deposits 902 = .ok (.iconst 0, 1) := dk_3 (dk_at dksX48_deposits_38 15 rfl rfl)
theorem dX48_deposits_903 : decode cX48_deposits 903 = .ok (.laload, 1) := dk_47 (dk_at dksX48_deposits_38 16 rfl rfl)
theorem dX48_deposits_904 : decode cX48_deposits 904 = .ok (.l2i, 1) := dk_136 (dk_at dksX48_deposits_38 17 rfl rfl)
theorem dX48_deposits_905 : decode cX48_deposits 905 = .ok (.invokevirtual 1023, 3) := dk_182 3 255 (dk_at dksX48_deposits_38 18 rfl rfl)
theorem dX48_deposits_908 : decode cX48_deposits 908 = .ok (.i2l, 1) := dk_133 (dk_at dksX48_deposits_38 21 rfl rfl)
theorem dX48_deposits_909 : decode cX48_deposits 909 = .ok (.goto 4, 3) := dk_167 0 4 (dk_at dksX48_deposits_39 0 rfl rfl)
theorem dX48_deposits_912 : decode cX48_deposits 912 = .ok (.lconst 0, 1) := dk_9 (dk_at dksX48_deposits_39 3 rfl rfl)
theorem dX48_deposits_913 : decode cX48_deposits 913 = .ok (.lreturn, 1) := dk_173 (dk_at dksX48_deposits_39 4 rfl rfl)
theorem dX48_deposits_914 : decode cX48_deposits 914 = .ok (.aload_n 0, 1) := dk_42 (dk_at dksX48_deposits_39 5 rfl rfl)
theorem dX48_deposits_915 : decode cX48_deposits 915 = .ok (.ldc_w 1025, 3) := dk_19 4 1 (dk_at dksX48_deposits_39 6 rfl rfl)
theorem dX48_deposits_918 : decode cX48_deposits 918 = .ok (.ldc_w 278, 3) := dk_19 1 22 (dk_at dksX48_deposits_39 9 rfl rfl)
theorem dX48_deposits_921 : decode cX48_deposits 921 = .ok (.invokevirtual 263, 3) := dk_182 1 7 (dk_at dksX48_deposits_39 12 rfl rfl)
theorem dX48_deposits_924 : decode cX48_deposits 924 = .ok (.ifCond .eq 29, 3) := dk_153 0 29 (dk_at dksX48_deposits_39 15 rfl rfl)
theorem dX48_deposits_927 : decode cX48_deposits 927 = .ok (.aload_n 0, 1) := dk_42 (dk_at dksX48_deposits_39 18 rfl rfl)
theorem dX48_deposits_928 : decode cX48_deposits 928 = .ok (.getfield 167, 3) := dk_180 0 167 (dk_at dksX48_deposits_39 19 rfl rfl)
theorem dX48_deposits_931 : decode cX48_deposits 931 = .ok (.ifCond .ge 20, 3) := dk_156 0 20 (dk_at dksX48_deposits_40 0 rfl rfl)
theorem dX48_deposits_934 : decode cX48_deposits 934 = .ok (.aload_n 0, 1) := dk_42 (dk_at dksX48_deposits_40 3 rfl rfl)
theorem dX48_deposits_935 : decode cX48_deposits 935 = .ok (.getfield 72, 3) := dk_180 0 72 (dk_at dksX48_deposits_40 4 rfl rfl)
theorem dX48_deposits_938 : decode cX48_deposits 938 = .ok (.aload_n 0, 1) := dk_42 (dk_at dksX48_deposits_40 7 rfl rfl)
theorem dX48_deposits_939 : decode cX48_deposits 939 = .ok (.getfield 99, 3) := dk_180 0 99 (dk_at dksX48_deposits_40 8 rfl rfl)
theorem dX48_deposits_942 : decode cX48_deposits 942 = .ok (.iconst 0, 1) := dk_3 (dk_at dksX48_deposits_40 11 rfl rfl)
theorem dX48_deposits_943 : decode cX48_deposits 943 = .ok (.laload, 1) := dk_47 (dk_at dksX48_deposits_40 12 rfl rfl)
theorem dX48_deposits_944 : decode cX48_deposits 944 = .ok (.l2i, 1) := dk_136 (dk_at dksX48_deposits_40 13 rfl rfl)
theorem dX48_deposits_945 : decode cX48_deposits 945 = .ok (.invokevirtual 1027, 3) := dk_182 4 3 (dk_at dksX48_deposits_40 14 rfl rfl)
theorem dX48_deposits_948 : decode cX48_deposits 948 = .ok (.goto 4, 3) := dk_167 0 4 (dk_at dksX48_deposits_40 17 rfl rfl)
theorem dX48_deposits_951 : decode cX48_deposits 951 = .ok (.lconst 0, 1) := dk_9 (dk_at dksX48_deposits_40 20 rfl rfl)
theorem dX48_deposits_952 : decode cX48_deposits 952 = .ok (.lreturn, 1) := dk_173 (dk_at dksX48_deposits_40 21 rfl rfl)
theorem dX48_deposits_953 : decode cX48_deposits 953 = .ok (.aload_n 0, 1) := dk_42 (dk_at dksX48_deposits_40 22 rfl rfl)
theorem dX48_deposits_954 : decode cX48_deposits 954 = .ok (.ldc_w 1029, 3) := dk_19 4 5 (dk_at dksX48_deposits_41 0 rfl rfl)
theorem dX48_deposits_957 : decode cX48_deposits 957 = .ok (.ldc_w 278, 3) := dk_19 1 22 (dk_at dksX48_deposits_41 3 rfl rfl)
theorem dX48_deposits_960 : decode cX48_deposits 960 = .ok (.invokevirtual 263, 3) := dk_182 1 7 (dk_at dksX48_deposits_41 6 rfl rfl)
theorem dX48_deposits_963 : decode cX48_deposits 963 = .ok (.ifCond .eq 30, 3) := dk_153 0 30 (dk_at dksX48_deposits_41 9 rfl rfl)
theorem dX48_deposits_966 : decode cX48_deposits 966 = .ok (.aload_n 0, 1) := dk_42 (dk_at dksX48_deposits_41 12 rfl rfl)
theorem dX48_deposits_967 : decode cX48_deposits 967 = .ok (.getfield 167, 3) := dk_180 0 167 (dk_at dksX48_deposits_41 13 rfl rfl)
theorem dX48_deposits_970 : decode cX48_deposits 970 = .ok (.ifCond .ge 21, 3) := dk_156 0 21 (dk_at dksX48_deposits_41 16 rfl rfl)
theorem dX48_deposits_973 : decode cX48_deposits 973 = .ok (.aload_n 0, 1) := dk_42 (dk_at dksX48_deposits_41 19 rfl rfl)
theorem dX48_deposits_974 : decode cX48_deposits 974 = .ok (.getfield 72, 3) := dk_180 0 72 (dk_at dksX48_deposits_41 20 rfl rfl)
theorem dX48_deposits_977 : decode cX48_deposits 977 = .ok (.aload_n 0, 1) := dk_42 (dk_at dksX48_deposits_41 23 rfl rfl)
theorem dX48_deposits_978 : decode cX48_deposits 978 = .ok (.getfield 99, 3) := dk_180 0 99 (dk_at dksX48_deposits_42 0 rfl rfl)
theorem dX48_deposits_981 : decode cX48_deposits 981 = .ok (.iconst 0, 1) := dk_3 (dk_at dksX48_deposits_42 3 rfl rfl)
theorem dX48_deposits_982 : decode cX48_deposits 982 = .ok (.laload, 1) := dk_47 (dk_at dksX48_deposits_42 4 rfl rfl)
theorem dX48_deposits_983 : decode cX48_deposits 983 = .ok (.l2i, 1) := dk_136 (dk_at dksX48_deposits_42 5 rfl rfl)
theorem dX48_deposits_984 : decode cX48_deposits 984 = .ok (.invokevirtual 1031, 3) := dk_182 4 7 (dk_at dksX48_deposits_42 6 rfl rfl)
theorem dX48_deposits_987 : decode cX48_deposits 987 = .ok (.i2l, 1) := dk_133 (dk_at dksX48_deposits_42 9 rfl rfl)
theorem dX48_deposits_988 : decode cX48_deposits 988 = .ok (.goto 4, 3) := dk_167 0 4 (dk_at dksX48_deposits_42 10 rfl rfl)
theorem dX48_deposits_991 : decode cX48_deposits 991 = .ok (.lconst 0, 1) := dk_9 (dk_at dksX48_deposits_42 13 rfl rfl)
theorem dX48_deposits_992 : decode cX48_deposits 992 = .ok (.lreturn, 1) := dk_173 (dk_at dksX48_deposits_42 14 rfl rfl)
theorem dX48_deposits_993 : decode cX48_deposits 993 = .ok (.aload_n 0, 1) := dk_42 (dk_at dksX48_deposits_42 15 rfl rfl)
theorem dX48_deposits_994 : decode cX48_deposits 994 = .ok (.invokevirtual 332, 3) := dk_182 1 76 (dk_at dksX48_deposits_42 16 rfl rfl)
theorem dX48_deposits_997 : decode cX48_deposits 997 = .ok (.lreturn, 1) := dk_173 (dk_at dksX48_deposits_42 19 rfl rfl)
abbrev cX48_print : ByteArray := prog_56_method_12_code
def yX48_print : MethodName := ⟨RX48, "print", "(I)V"⟩
def dkwX48_print_0 : List UInt8 := [42, 180, 0, 81, 42, 180, 0, 174, 27, 145, 84, 42, 89, 180, 0, 174, 4, 96, 181, 0, 174, 177]
abbrev dktX48_print_0 : List UInt8 := dkwX48_print_0 ++ []
theorem dksX48_print_0 : cX48_print.data.toList.drop 0 = dktX48_print_0 := by decide +kernel
theorem dX48_print_0 : decode cX48_print 0 = .ok (.aload_n 0, 1) := dk_42 (dk_at dksX48_print_0 0 rfl rfl)
theorem dX48_print_1 : decode cX48_print 1 = .ok (.getfield 81, 3) := dk_180 0 81 (dk_at dksX48_print_0 1 rfl rfl)
theorem dX48_print_4 : decode cX48_print 4 = .ok (.aload_n 0, 1) := dk_42 (dk_at dksX48_print_0 4 rfl rfl)
theorem dX48_print_5 : decode cX48_print 5 = .ok (.getfield 174, 3) := dk_180 0 174 (dk_at dksX48_print_0 5 rfl rfl)
theorem dX48_print_8 : decode cX48_print 8 = .ok (.iload_n 1, 1) := dk_27 (dk_at dksX48_print_0 8 rfl rfl)
theorem dX48_print_9 : decode cX48_print 9 = .ok (.i2b, 1) := dk_145 (dk_at dksX48_print_0 9 rfl rfl)
theorem dX48_print_10 : decode cX48_print 10 = .ok (.bastore, 1) := dk_84 (dk_at dksX48_print_0 10 rfl rfl)
theorem dX48_print_11 : decode cX48_print 11 = .ok (.aload_n 0, 1) := dk_42 (dk_at dksX48_print_0 11 rfl rfl)
theorem dX48_print_12 : decode cX48_print 12 = .ok (.dup, 1) := dk_89 (dk_at dksX48_print_0 12 rfl rfl)
theorem dX48_print_13 : decode cX48_print 13 = .ok (.getfield 174, 3) := dk_180 0 174 (dk_at dksX48_print_0 13 rfl rfl)
theorem dX48_print_16 : decode cX48_print 16 = .ok (.iconst 1, 1) := dk_4 (dk_at dksX48_print_0 16 rfl rfl)
theorem dX48_print_17 : decode cX48_print 17 = .ok (.iadd, 1) := dk_96 (dk_at dksX48_print_0 17 rfl rfl)
theorem dX48_print_18 : decode cX48_print 18 = .ok (.putfield 174, 3) := dk_181 0 174 (dk_at dksX48_print_0 18 rfl rfl)
theorem dX48_print_21 : decode cX48_print 21 = .ok (.return_, 1) := dk_177 (dk_at dksX48_print_0 21 rfl rfl)
abbrev cX48_printNumber : ByteArray := prog_56_method_13_code
def yX48_printNumber : MethodName := ⟨RX48, "printNumber", "(J)V"⟩
def dkwX48_printNumber_3 : List UInt8 := [182, 0, 177, 33, 20, 0, 153, 109, 66, 167, 255, 227, 177]
abbrev dktX48_printNumber_3 : List UInt8 := dkwX48_printNumber_3 ++ []
def dkwX48_printNumber_2 : List UInt8 := [167, 255, 239, 33, 9, 148, 158, 0, 29, 42, 20, 0, 155, 22, 5, 33, 109, 20, 0, 153, 113, 101, 136]
abbrev dktX48_printNumber_2 : List UInt8 := dkwX48_printNumber_2 ++ dktX48_printNumber_3
def dkwX48_printNumber_1 : List UInt8 := [167, 0, 4, 31, 55, 5, 22, 5, 33, 109, 20, 0, 180, 148, 156, 0, 12, 33, 20, 0, 153, 105, 66]
abbrev dktX48_printNumber_1 : List UInt8 := dkwX48_printNumber_1 ++ dktX48_printNumber_2
def dkwX48_printNumber_0 : List UInt8 := [31, 9, 148, 156, 0, 9, 42, 16, 45, 182, 0, 177, 10, 66, 31, 9, 148, 158, 0, 8, 31, 117]
abbrev dktX48_printNumber_0 : List UInt8 := dkwX48_printNumber_0 ++ dktX48_printNumber_1
theorem dksX48_printNumber_0 : cX48_printNumber.data.toList.drop 0 = dktX48_printNumber_0 := by decide +kernel
theorem dksX48_printNumber_1 : cX48_printNumber.data.toList.drop 22 = dktX48_printNumber_1 := dk_seg dksX48_printNumber_0 22 rfl rfl
theorem dksX48_printNumber_2 : cX48_printNumber.data.toList.drop 45 = dktX48_printNumber_2 := dk_seg dksX48_printNumber_1 23 rfl rfl
theorem dksX48_printNumber_3 : cX48_printNumber.data.toList.drop 68 = dktX48_printNumber_3 := dk_seg dksX48_printNumber_2 23 rfl rfl
theorem dX48_printNumber_0 : decode cX48_printNumber 0 = .ok (.lload_n 1, 1) := dk_31 (dk_at dksX48_printNumber_0 0 rfl rfl)
theorem dX48_printNumber_1 : decode cX48_printNumber 1 = .ok (.lconst 0, 1) := dk_9 (dk_at dksX48_printNumber_0 1 rfl rfl)
theorem dX48_printNumber_2 : decode cX48_printNumber 2 = .ok (.lcmp, 1) := dk_148 (dk_at dksX48_printNumber_0 2 rfl rfl)
theorem dX48_printNumber_3 : decode cX48_printNumber 3 = .ok (.ifCond .ge 9, 3) := dk_156 0 9 (dk_at dksX48_printNumber_0 3 rfl rfl)
theorem dX48_printNumber_6 : decode cX48_printNumber 6 = .ok (.aload_n 0, 1) := dk_42 (dk_at dksX48_printNumber_0 6 rfl rfl)
theorem dX48_printNumber_7 : decode cX48_printNumber 7 = .ok (.bipush 45, 2) := dk_16 45 (dk_at dksX48_printNumber_0 7 rfl rfl)
theorem dX48_printNumber_9 : decode cX48_printNumber 9 = .ok (.invokevirtual 177, 3) := dk_182 0 177 (dk_at dksX48_printNumber_0 9 rfl rfl)
theorem dX48_printNumber_12 : decode cX48_printNumber 12 = .ok (.lconst 1, 1) := dk_10 (dk_at dksX48_printNumber_0 12 rfl rfl)
theorem dX48_printNumber_13 : decode cX48_printNumber 13 = .ok (.lstore_n 3, 1) := dk_66 (dk_at dksX48_printNumber_0 13 rfl rfl)
theorem dX48_printNumber_14 : decode cX48_printNumber 14 = .ok (.lload_n 1, 1) := dk_31 (dk_at dksX48_printNumber_0 14 rfl rfl)
theorem dX48_printNumber_15 : decode cX48_printNumber 15 = .ok (.lconst 0, 1) := dk_9 (dk_at dksX48_printNumber_0 15 rfl rfl)
theorem dX48_printNumber_16 : decode cX48_printNumber 16 = .ok (.lcmp, 1) := dk_148 (dk_at dksX48_printNumber_0 16 rfl rfl)
theorem dX48_printNumber_17 : decode cX48_printNumber 17 = .ok (.ifCond .le 8, 3) := dk_158 0 8 (dk_at dksX48_printNumber_0 17 rfl rfl)
theorem dX48_printNumber_20 : decode cX48_printNumber 20 = .ok (.lload_n 1, 1) := dk_31 (dk_at dksX48_printNumber_0 20 rfl rfl)
theorem dX48_printNumber_21 : decode cX48_printNumber 21 = .ok (.lneg, 1) := dk_117 (dk_at dksX48_printNumber_0 21 rfl rfl)
theorem dX48_printNumber_22 : decode cX48_printNumber 22 = .ok (.goto 4, 3) := dk_167 0 4 (dk_at dksX48_printNumber_1 0 rfl rfl)
theorem dX48_printNumber_25 : decode cX48_printNumber 25 = .ok (.lload_n 1, 1) := dk_31 (dk_at dksX48_printNumber_1 3 rfl rfl)
theorem dX48_printNumber_26 : decode cX48_printNumber 26 = .ok (.lstore 5, 2) := dk_55 5 (dk_at dksX48_printNumber_1 4 rfl rfl)
theorem dX48_printNumber_28 : decode cX48_printNumber 28 = .ok (.lload 5, 2) := dk_22 5 (dk_at dksX48_printNumber_1 6 rfl rfl)
theorem dX48_printNumber_30 : decode cX48_printNumber 30 = .ok (.lload_n 3, 1) := dk_33 (dk_at dksX48_printNumber_1 8 rfl rfl)
theorem dX48_printNumber_31 : decode cX48_printNumber 31 = .ok (.ldiv, 1) := dk_109 (dk_at dksX48_printNumber_1 9 rfl rfl)
theorem dX48_printNumber_32 : decode cX48_printNumber 32 = .ok (.ldc2_w 180, 3) := dk_20 0 180 (dk_at dksX48_printNumber_1 10 rfl rfl)
theorem dX48_printNumber_35 : decode cX48_printNumber 35 = .ok (.lcmp, 1) := dk_148 (dk_at dksX48_printNumber_1 13 rfl rfl)
theorem dX48_printNumber_36 : decode cX48_printNumber 36 = .ok (.ifCond .ge 12, 3) := dk_156 0 12 (dk_at dksX48_printNumber_1 14 rfl rfl)
theorem dX48_printNumber_39 : decode cX48_printNumber 39 = .ok (.lload_n 3, 1) := dk_33 (dk_at dksX48_printNumber_1 17 rfl rfl)
theorem dX48_printNumber_40 : decode cX48_printNumber 40 = .ok (.ldc2_w 153, 3) := dk_20 0 153 (dk_at dksX48_printNumber_1 18 rfl rfl)
theorem dX48_printNumber_43 : decode cX48_printNumber 43 = .ok (.lmul, 1) := dk_105 (dk_at dksX48_printNumber_1 21 rfl rfl)
theorem dX48_printNumber_44 : decode cX48_printNumber 44 = .ok (.lstore_n 3, 1) := dk_66 (dk_at dksX48_printNumber_1 22 rfl rfl)
theorem dX48_printNumber_45 : decode cX48_printNumber 45 = .ok (.goto (-17), 3) := dk_167 255 239 (dk_at dksX48_printNumber_2 0 rfl rfl)
theorem dX48_printNumber_48 : decode cX48_printNumber 48 = .ok (.lload_n 3, 1) := dk_33 (dk_at dksX48_printNumber_2 3 rfl rfl)
theorem dX48_printNumber_49 : decode cX48_printNumber 49 = .ok (.lconst 0, 1) := dk_9 (dk_at dksX48_printNumber_2 4 rfl rfl)
theorem dX48_printNumber_50 : decode cX48_printNumber 50 = .ok (.lcmp, 1) := dk_148 (dk_at dksX48_printNumber_2 5 rfl rfl)
theorem dX48_printNumber_51 : decode cX48_printNumber 51 = .ok (.ifCond .le 29, 3) := dk_158 0 29 (dk_at dksX48_printNumber_2 6 rfl rfl)
theorem dX48_printNumber_54 : decode cX48_printNumber 54 = .ok (.aload_n 0, 1) := dk_42 (dk_at dksX48_printNumber_2 9 rfl rfl)
theorem dX48_printNumber_55 : decode cX48_printNumber 55 = .ok (.ldc2_w 155, 3) := dk_20 0 155 (dk_at dksX48_printNumber_2 10 rfl rfl)
theorem dX48_printNumber_58 : decode cX48_printNumber 58 = .ok (.lload 5, 2) := dk_22 5 (dk_at dksX48_printNumber_2 13 rfl rfl)
theorem dX48_printNumber_60 : decode cX48_printNumber 60 = .ok (.lload_n 3, 1) := dk_33 (dk_at dksX48_printNumber_2 15 rfl rfl)
theorem dX48_printNumber_61 : decode cX48_printNumber 61 = .ok (.ldiv, 1) := dk_109 (dk_at dksX48_printNumber_2 16 rfl rfl)
theorem dX48_printNumber_62 : decode cX48_printNumber 62 = .ok (.ldc2_w 153, 3) := dk_20 0 153 (dk_at dksX48_printNumber_2 17 rfl rfl)
theorem dX48_printNumber_65 : decode cX48_printNumber 65 = .ok (.lrem, 1) := dk_113 (dk_at dksX48_printNumber_2 20 rfl rfl)
theorem dX48_printNumber_66 : decode cX48_printNumber 66 = .ok (.lsub, 1) := dk_101 (dk_at dksX48_printNumber_2 21 rfl rfl)
theorem dX48_printNumber_67 : decode cX48_printNumber 67 = .ok (.l2i, 1) := dk_136 (dk_at dksX48_printNumber_2 22 rfl rfl)
theorem dX48_printNumber_68 : decode cX48_printNumber 68 = .ok (.invokevirtual 177, 3) := dk_182 0 177 (dk_at dksX48_printNumber_3 0 rfl rfl)
theorem dX48_printNumber_71 : decode cX48_printNumber 71 = .ok (.lload_n 3, 1) := dk_33 (dk_at dksX48_printNumber_3 3 rfl rfl)
theorem dX48_printNumber_72 : decode cX48_printNumber 72 = .ok (.ldc2_w 153, 3) := dk_20 0 153 (dk_at dksX48_printNumber_3 4 rfl rfl)
theorem dX48_printNumber_75 : decode cX48_printNumber 75 = .ok (.ldiv, 1) := dk_109 (dk_at dksX48_printNumber_3 7 rfl rfl)
theorem dX48_printNumber_76 : decode cX48_printNumber 76 = .ok (.lstore_n 3, 1) := dk_66 (dk_at dksX48_printNumber_3 8 rfl rfl)
theorem dX48_printNumber_77 : decode cX48_printNumber 77 = .ok (.goto (-29), 3) := dk_167 255 227 (dk_at dksX48_printNumber_3 9 rfl rfl)
theorem dX48_printNumber_80 : decode cX48_printNumber 80 = .ok (.return_, 1) := dk_177 (dk_at dksX48_printNumber_3 12 rfl rfl)
abbrev cX48_made : ByteArray := prog_56_method_16_code
def yX48_made : MethodName := ⟨RX48, "made", "()I"⟩
def dkwX48_made_0 : List UInt8 := [42, 3, 181, 0, 124, 42, 180, 0, 174, 172]
abbrev dktX48_made_0 : List UInt8 := dkwX48_made_0 ++ []
theorem dksX48_made_0 : cX48_made.data.toList.drop 0 = dktX48_made_0 := by decide +kernel
theorem dX48_made_0 : decode cX48_made 0 = .ok (.aload_n 0, 1) := dk_42 (dk_at dksX48_made_0 0 rfl rfl)
theorem dX48_made_1 : decode cX48_made 1 = .ok (.iconst 0, 1) := dk_3 (dk_at dksX48_made_0 1 rfl rfl)
theorem dX48_made_2 : decode cX48_made 2 = .ok (.putfield 124, 3) := dk_181 0 124 (dk_at dksX48_made_0 2 rfl rfl)
theorem dX48_made_5 : decode cX48_made 5 = .ok (.aload_n 0, 1) := dk_42 (dk_at dksX48_made_0 5 rfl rfl)
theorem dX48_made_6 : decode cX48_made 6 = .ok (.getfield 174, 3) := dk_180 0 174 (dk_at dksX48_made_0 6 rfl rfl)
theorem dX48_made_9 : decode cX48_made 9 = .ok (.ireturn, 1) := dk_172 (dk_at dksX48_made_0 9 rfl rfl)
abbrev cX48_out : ByteArray := prog_56_method_17_code
def yX48_out : MethodName := ⟨RX48, "out", "(I)I"⟩
def dkwX48_out_1 : List UInt8 := [17, 0, 255, 126, 167, 0, 4, 2, 172]
abbrev dktX48_out_1 : List UInt8 := dkwX48_out_1 ++ []
def dkwX48_out_0 : List UInt8 := [42, 3, 181, 0, 124, 27, 155, 0, 24, 27, 42, 180, 0, 174, 162, 0, 16, 42, 180, 0, 81, 27, 51]
abbrev dktX48_out_0 : List UInt8 := dkwX48_out_0 ++ dktX48_out_1
theorem dksX48_out_0 : cX48_out.data.toList.drop 0 = dktX48_out_0 := by decide +kernel
theorem dksX48_out_1 : cX48_out.data.toList.drop 23 = dktX48_out_1 := dk_seg dksX48_out_0 23 rfl rfl
theorem dX48_out_0 : decode cX48_out 0 = .ok (.aload_n 0, 1) := dk_42 (dk_at dksX48_out_0 0 rfl rfl)
theorem dX48_out_1 : decode cX48_out 1 = .ok (.iconst 0, 1) := dk_3 (dk_at dksX48_out_0 1 rfl rfl)
theorem dX48_out_2 : decode cX48_out 2 = .ok (.putfield 124, 3) := dk_181 0 124 (dk_at dksX48_out_0 2 rfl rfl)
theorem dX48_out_5 : decode cX48_out 5 = .ok (.iload_n 1, 1) := dk_27 (dk_at dksX48_out_0 5 rfl rfl)
theorem dX48_out_6 : decode cX48_out 6 = .ok (.ifCond .lt 24, 3) := dk_155 0 24 (dk_at dksX48_out_0 6 rfl rfl)
theorem dX48_out_9 : decode cX48_out 9 = .ok (.iload_n 1, 1) := dk_27 (dk_at dksX48_out_0 9 rfl rfl)
theorem dX48_out_10 : decode cX48_out 10 = .ok (.aload_n 0, 1) := dk_42 (dk_at dksX48_out_0 10 rfl rfl)
theorem dX48_out_11 : decode cX48_out 11 = .ok (.getfield 174, 3) := dk_180 0 174 (dk_at dksX48_out_0 11 rfl rfl)
theorem dX48_out_14 : decode cX48_out 14 = .ok (.if_icmp .ge 16, 3) := dk_162 0 16 (dk_at dksX48_out_0 14 rfl rfl)
theorem dX48_out_17 : decode cX48_out 17 = .ok (.aload_n 0, 1) := dk_42 (dk_at dksX48_out_0 17 rfl rfl)
theorem dX48_out_18 : decode cX48_out 18 = .ok (.getfield 81, 3) := dk_180 0 81 (dk_at dksX48_out_0 18 rfl rfl)
theorem dX48_out_21 : decode cX48_out 21 = .ok (.iload_n 1, 1) := dk_27 (dk_at dksX48_out_0 21 rfl rfl)
theorem dX48_out_22 : decode cX48_out 22 = .ok (.baload, 1) := dk_51 (dk_at dksX48_out_0 22 rfl rfl)
theorem dX48_out_23 : decode cX48_out 23 = .ok (.sipush 255, 3) := dk_17 0 255 (dk_at dksX48_out_1 0 rfl rfl)
theorem dX48_out_26 : decode cX48_out 26 = .ok (.iand, 1) := dk_126 (dk_at dksX48_out_1 3 rfl rfl)
theorem dX48_out_27 : decode cX48_out 27 = .ok (.goto 4, 3) := dk_167 0 4 (dk_at dksX48_out_1 4 rfl rfl)
theorem dX48_out_30 : decode cX48_out 30 = .ok (.iconst (-1), 1) := dk_2 (dk_at dksX48_out_1 7 rfl rfl)
theorem dX48_out_31 : decode cX48_out 31 = .ok (.ireturn, 1) := dk_172 (dk_at dksX48_out_1 8 rfl rfl)
abbrev cX48_wrong : ByteArray := prog_56_method_18_code
def yX48_wrong : MethodName := ⟨RX48, "wrong", "()I"⟩
def dkwX48_wrong_0 : List UInt8 := [42, 3, 181, 0, 124, 42, 180, 0, 88, 172]
abbrev dktX48_wrong_0 : List UInt8 := dkwX48_wrong_0 ++ []
theorem dksX48_wrong_0 : cX48_wrong.data.toList.drop 0 = dktX48_wrong_0 := by decide +kernel
theorem dX48_wrong_0 : decode cX48_wrong 0 = .ok (.aload_n 0, 1) := dk_42 (dk_at dksX48_wrong_0 0 rfl rfl)
theorem dX48_wrong_1 : decode cX48_wrong 1 = .ok (.iconst 0, 1) := dk_3 (dk_at dksX48_wrong_0 1 rfl rfl)
theorem dX48_wrong_2 : decode cX48_wrong 2 = .ok (.putfield 124, 3) := dk_181 0 124 (dk_at dksX48_wrong_0 2 rfl rfl)
theorem dX48_wrong_5 : decode cX48_wrong 5 = .ok (.aload_n 0, 1) := dk_42 (dk_at dksX48_wrong_0 5 rfl rfl)
theorem dX48_wrong_6 : decode cX48_wrong 6 = .ok (.getfield 88, 3) := dk_180 0 88 (dk_at dksX48_wrong_0 6 rfl rfl)
theorem dX48_wrong_9 : decode cX48_wrong 9 = .ok (.ireturn, 1) := dk_172 (dk_at dksX48_wrong_0 9 rfl rfl)
abbrev cX48_answers : ByteArray := prog_56_method_19_code
def yX48_answers : MethodName := ⟨RX48, "answers", "()I"⟩
def dkwX48_answers_0 : List UInt8 := [42, 3, 181, 0, 124, 42, 180, 0, 157, 172]
abbrev dktX48_answers_0 : List UInt8 := dkwX48_answers_0 ++ []
theorem dksX48_answers_0 : cX48_answers.data.toList.drop 0 = dktX48_answers_0 := by decide +kernel
theorem dX48_answers_0 : decode cX48_answers 0 = .ok (.aload_n 0, 1) := dk_42 (dk_at dksX48_answers_0 0 rfl rfl)
theorem dX48_answers_1 : decode cX48_answers 1 = .ok (.iconst 0, 1) := dk_3 (dk_at dksX48_answers_0 1 rfl rfl)
theorem dX48_answers_2 : decode cX48_answers 2 = .ok (.putfield 124, 3) := dk_181 0 124 (dk_at dksX48_answers_0 2 rfl rfl)
theorem dX48_answers_5 : decode cX48_answers 5 = .ok (.aload_n 0, 1) := dk_42 (dk_at dksX48_answers_0 5 rfl rfl)
theorem dX48_answers_6 : decode cX48_answers 6 = .ok (.getfield 157, 3) := dk_180 0 157 (dk_at dksX48_answers_0 6 rfl rfl)
theorem dX48_answers_9 : decode cX48_answers 9 = .ok (.ireturn, 1) := dk_172 (dk_at dksX48_answers_0 9 rfl rfl)
abbrev cX48_answer : ByteArray := prog_56_method_20_code
def yX48_answer : MethodName := ⟨RX48, "answer", "(I)J"⟩
def dkwX48_answer_1 : List UInt8 := [167, 0, 6, 20, 0, 234, 173]
abbrev dktX48_answer_1 : List UInt8 := dkwX48_answer_1 ++ []
def dkwX48_answer_0 : List UInt8 := [42, 3, 181, 0, 124, 27, 155, 0, 20, 27, 42, 180, 0, 157, 162, 0, 12, 42, 180, 0, 84, 27, 47]
abbrev dktX48_answer_0 : List UInt8 := dkwX48_answer_0 ++ dktX48_answer_1
theorem dksX48_answer_0 : cX48_answer.data.toList.drop 0 = dktX48_answer_0 := by decide +kernel
theorem dksX48_answer_1 : cX48_answer.data.toList.drop 23 = dktX48_answer_1 := dk_seg dksX48_answer_0 23 rfl rfl
theorem dX48_answer_0 : decode cX48_answer 0 = .ok (.aload_n 0, 1) := dk_42 (dk_at dksX48_answer_0 0 rfl rfl)
theorem dX48_answer_1 : decode cX48_answer 1 = .ok (.iconst 0, 1) := dk_3 (dk_at dksX48_answer_0 1 rfl rfl)
theorem dX48_answer_2 : decode cX48_answer 2 = .ok (.putfield 124, 3) := dk_181 0 124 (dk_at dksX48_answer_0 2 rfl rfl)
theorem dX48_answer_5 : decode cX48_answer 5 = .ok (.iload_n 1, 1) := dk_27 (dk_at dksX48_answer_0 5 rfl rfl)
theorem dX48_answer_6 : decode cX48_answer 6 = .ok (.ifCond .lt 20, 3) := dk_155 0 20 (dk_at dksX48_answer_0 6 rfl rfl)
theorem dX48_answer_9 : decode cX48_answer 9 = .ok (.iload_n 1, 1) := dk_27 (dk_at dksX48_answer_0 9 rfl rfl)
theorem dX48_answer_10 : decode cX48_answer 10 = .ok (.aload_n 0, 1) := dk_42 (dk_at dksX48_answer_0 10 rfl rfl)
theorem dX48_answer_11 : decode cX48_answer 11 = .ok (.getfield 157, 3) := dk_180 0 157 (dk_at dksX48_answer_0 11 rfl rfl)
theorem dX48_answer_14 : decode cX48_answer 14 = .ok (.if_icmp .ge 12, 3) := dk_162 0 12 (dk_at dksX48_answer_0 14 rfl rfl)
theorem dX48_answer_17 : decode cX48_answer 17 = .ok (.aload_n 0, 1) := dk_42 (dk_at dksX48_answer_0 17 rfl rfl)
theorem dX48_answer_18 : decode cX48_answer 18 = .ok (.getfield 84, 3) := dk_180 0 84 (dk_at dksX48_answer_0 18 rfl rfl)
theorem dX48_answer_21 : decode cX48_answer 21 = .ok (.iload_n 1, 1) := dk_27 (dk_at dksX48_answer_0 21 rfl rfl)
theorem dX48_answer_22 : decode cX48_answer 22 = .ok (.laload, 1) := dk_47 (dk_at dksX48_answer_0 22 rfl rfl)
theorem dX48_answer_23 : decode cX48_answer 23 = .ok (.goto 6, 3) := dk_167 0 6 (dk_at dksX48_answer_1 0 rfl rfl)
theorem dX48_answer_26 : decode cX48_answer 26 = .ok (.ldc2_w 234, 3) := dk_20 0 234 (dk_at dksX48_answer_1 3 rfl rfl)
theorem dX48_answer_29 : decode cX48_answer 29 = .ok (.lreturn, 1) := dk_173 (dk_at dksX48_answer_1 6 rfl rfl)
theorem q454 : (Jvm.Cond.initialized "WasteHouseModel") ∈ lw_all := lw_g (lw_at lw_m1 62 rfl) rfl
theorem q2024 : (Jvm.Cond.selects "WasteHouseModel" ({ cls := "java/lang/Object", name := "getClass", desc := "()Ljava/lang/Class;" } : Jvm.MethodName) ({ cls := "java/lang/Object", name := "getClass", desc := "()Ljava/lang/Class;" } : Jvm.MethodName)) ∈ lw_all := lw_g (lw_at lw_m7 192 rfl) rfl
theorem q3134 : (Jvm.Cond.selects "WasteHouseModel" ({ cls := "java/lang/Object", name := "equals", desc := "(Ljava/lang/Object;)Z" } : Jvm.MethodName) ({ cls := "java/lang/Object", name := "equals", desc := "(Ljava/lang/Object;)Z" } : Jvm.MethodName)) ∈ lw_all := lw_g (lw_at lw_m12 102 rfl) rfl
theorem q3652 : (Jvm.Cond.selects "WasteHouseModel" ({ cls := "java/lang/Object", name := "hashCode", desc := "()I" } : Jvm.MethodName) ({ cls := "java/lang/Object", name := "hashCode", desc := "()I" } : Jvm.MethodName)) ∈ lw_all := lw_g (lw_at lw_m14 140 rfl) rfl
theorem q6668 : (Jvm.Cond.instantiable "WasteHouseModel" (34 : Nat)) ∈ lw_all := lw_g (lw_at lw_m27 36 rfl) rfl
theorem q6670 : (Jvm.Cond.instanceMethod ({ cls := "WasteHouseModel", name := "<init>", desc := "()V" } : Jvm.MethodName)) ∈ lw_all := lw_g (lw_at lw_m27 38 rfl) rfl
theorem q6671 : (Jvm.Cond.code ({ cls := "WasteHouseModel", name := "<init>", desc := "()V" } : Jvm.MethodName) prog_56_method_1_code (1 : Nat) (Option.none : Option Jvm.ClassFile.FieldType)) ∈ lw_all := lw_g (lw_at lw_m27 39 rfl) rfl
theorem q6672 : (Jvm.Cond.methodLink "WasteHouseModel" (1 : Nat) ({ cls := "java/lang/Object", name := "<init>", desc := "()V" } : Jvm.MethodName)) ∈ lw_all := lw_g (lw_at lw_m27 40 rfl) rfl
theorem q6673 : (Jvm.Cond.classLink "WasteHouseModel" (7 : Nat) "WasteHouseModel$TicketChainModel") ∈ lw_all := lw_g (lw_at lw_m27 41 rfl) rfl
theorem q6675 : (Jvm.Cond.methodLink "WasteHouseModel" (9 : Nat) ({ cls := "WasteHouseModel$TicketChainModel", name := "<init>", desc := "()V" } : Jvm.MethodName)) ∈ lw_all := lw_g (lw_at lw_m27 43 rfl) rfl
theorem q6764 : (Jvm.Cond.classLink "WasteHouseModel" (16 : Nat) "WasteHouseModel$ShareSolveModel") ∈ lw_all := lw_g (lw_at lw_m27 132 rfl) rfl
theorem q6766 : (Jvm.Cond.methodLink "WasteHouseModel" (18 : Nat) ({ cls := "WasteHouseModel$ShareSolveModel", name := "<init>", desc := "(I)V" } : Jvm.MethodName)) ∈ lw_all := lw_g (lw_at lw_m27 134 rfl) rfl
theorem q6881 : (Jvm.Cond.classLink "WasteHouseModel" (25 : Nat) "WasteHouseModel$HazardRulesModel") ∈ lw_all := lw_g (lw_at lw_m28 9 rfl) rfl
theorem q6883 : (Jvm.Cond.methodLink "WasteHouseModel" (27 : Nat) ({ cls := "WasteHouseModel$HazardRulesModel", name := "<init>", desc := "()V" } : Jvm.MethodName)) ∈ lw_all := lw_g (lw_at lw_m28 11 rfl) rfl
theorem q6975 : (Jvm.Cond.classLink "WasteHouseModel" (32 : Nat) "WasteHouseModel$RoundColumnsModel") ∈ lw_all := lw_g (lw_at lw_m28 103 rfl) rfl
theorem q6977 : (Jvm.Cond.methodLink "WasteHouseModel" (34 : Nat) ({ cls := "WasteHouseModel$RoundColumnsModel", name := "<init>", desc := "()V" } : Jvm.MethodName)) ∈ lw_all := lw_g (lw_at lw_m28 105 rfl) rfl
theorem q7072 : (Jvm.Cond.classLink "WasteHouseModel" (39 : Nat) "WasteHouseModel$BarredStoresModel") ∈ lw_all := lw_g (lw_at lw_m28 200 rfl) rfl
theorem q7074 : (Jvm.Cond.methodLink "WasteHouseModel" (41 : Nat) ({ cls := "WasteHouseModel$BarredStoresModel", name := "<init>", desc := "()V" } : Jvm.MethodName)) ∈ lw_all := lw_g (lw_at lw_m28 202 rfl) rfl
theorem q7154 : (Jvm.Cond.classLink "WasteHouseModel" (46 : Nat) "WasteHouseModel$PartGraphsModel") ∈ lw_all := lw_g (lw_at lw_m29 42 rfl) rfl
theorem q7156 : (Jvm.Cond.methodLink "WasteHouseModel" (48 : Nat) ({ cls := "WasteHouseModel$PartGraphsModel", name := "<init>", desc := "()V" } : Jvm.MethodName)) ∈ lw_all := lw_g (lw_at lw_m29 44 rfl) rfl
theorem q7165 : (Jvm.Cond.fieldLinkNest "WasteHouseModel" (414 : Nat) "WasteHouseModel$PartGraphsModel" "parts" "[I" "WasteHouseModel") ∈ lw_tbl := lw_at lw_m29 53 rfl
theorem q7167 : (Jvm.Cond.fieldLinkNest "WasteHouseModel" (420 : Nat) "WasteHouseModel$PartGraphsModel" "kinds" "[I" "WasteHouseModel") ∈ lw_tbl := lw_at lw_m29 55 rfl
theorem q7169 : (Jvm.Cond.fieldLinkNest "WasteHouseModel" (426 : Nat) "WasteHouseModel$PartGraphsModel" "grams" "[I" "WasteHouseModel") ∈ lw_tbl := lw_at lw_m29 57 rfl
theorem q7176 : (Jvm.Cond.fieldLinkNest "WasteHouseModel" (423 : Nat) "WasteHouseModel$PartGraphsModel" "families" "[I" "WasteHouseModel") ∈ lw_tbl := lw_at lw_m29 64 rfl
theorem q7223 : (Jvm.Cond.classLink "WasteHouseModel" (53 : Nat) "WasteHouseModel$ApartCostModel") ∈ lw_all := lw_g (lw_at lw_m29 111 rfl) rfl
theorem q7225 : (Jvm.Cond.methodLink "WasteHouseModel" (55 : Nat) ({ cls := "WasteHouseModel$ApartCostModel", name := "<init>", desc := "()V" } : Jvm.MethodName)) ∈ lw_all := lw_g (lw_at lw_m29 113 rfl) rfl
theorem q7326 : (Jvm.Cond.classLink "WasteHouseModel" (60 : Nat) "WasteHouseModel$PurityOddsModel") ∈ lw_all := lw_g (lw_at lw_m29 214 rfl) rfl
theorem q7328 : (Jvm.Cond.methodLink "WasteHouseModel" (62 : Nat) ({ cls := "WasteHouseModel$PurityOddsModel", name := "<init>", desc := "(J)V" } : Jvm.MethodName)) ∈ lw_all := lw_g (lw_at lw_m29 216 rfl) rfl
theorem q7340 : (Jvm.Cond.fieldLinkNest "WasteHouseModel" (396 : Nat) "WasteHouseModel$PurityOddsModel" "weights" "[J" "WasteHouseModel") ∈ lw_tbl := lw_at lw_m29 228 rfl
theorem q7406 : (Jvm.Cond.classLink "WasteHouseModel" (69 : Nat) "WasteHouseModel$DepositCodesModel") ∈ lw_all := lw_g (lw_at lw_m30 54 rfl) rfl
theorem q7408 : (Jvm.Cond.methodLink "WasteHouseModel" (71 : Nat) ({ cls := "WasteHouseModel$DepositCodesModel", name := "<init>", desc := "()V" } : Jvm.MethodName)) ∈ lw_all := lw_g (lw_at lw_m30 56 rfl) rfl
theorem q7509 : (Jvm.Cond.constant "WasteHouseModel" (80 : Nat) (90000 : Int32)) ∈ lw_all := lw_g (lw_at lw_m30 157 rfl) rfl
theorem q7510 : (Jvm.Cond.fieldLink "WasteHouseModel" (10 : Nat) "WasteHouseModel" "tickets" "LWasteHouseModel$TicketChainModel;") ∈ lw_all := lw_g (lw_at lw_m30 158 rfl) rfl
theorem q7511 : (Jvm.Cond.fieldLink "WasteHouseModel" (21 : Nat) "WasteHouseModel" "line" "LWasteHouseModel$ShareSolveModel;") ∈ lw_all := lw_g (lw_at lw_m30 159 rfl) rfl
theorem q7512 : (Jvm.Cond.fieldLink "WasteHouseModel" (28 : Nat) "WasteHouseModel" "hazards" "LWasteHouseModel$HazardRulesModel;") ∈ lw_all := lw_g (lw_at lw_m30 160 rfl) rfl
theorem q7513 : (Jvm.Cond.fieldLink "WasteHouseModel" (35 : Nat) "WasteHouseModel" "rounds" "LWasteHouseModel$RoundColumnsModel;") ∈ lw_all := lw_g (lw_at lw_m30 161 rfl) rfl
theorem q7514 : (Jvm.Cond.fieldLink "WasteHouseModel" (42 : Nat) "WasteHouseModel" "store" "LWasteHouseModel$BarredStoresModel;") ∈ lw_all := lw_g (lw_at lw_m30 162 rfl) rfl
theorem q7515 : (Jvm.Cond.fieldLink "WasteHouseModel" (49 : Nat) "WasteHouseModel" "product" "LWasteHouseModel$PartGraphsModel;") ∈ lw_all := lw_g (lw_at lw_m30 163 rfl) rfl
theorem q7516 : (Jvm.Cond.fieldLink "WasteHouseModel" (56 : Nat) "WasteHouseModel" "apart" "LWasteHouseModel$ApartCostModel;") ∈ lw_all := lw_g (lw_at lw_m30 164 rfl) rfl
theorem q7517 : (Jvm.Cond.fieldLink "WasteHouseModel" (65 : Nat) "WasteHouseModel" "samples" "LWasteHouseModel$PurityOddsModel;") ∈ lw_all := lw_g (lw_at lw_m30 165 rfl) rfl
theorem q7518 : (Jvm.Cond.fieldLink "WasteHouseModel" (72 : Nat) "WasteHouseModel" "deposits" "LWasteHouseModel$DepositCodesModel;") ∈ lw_all := lw_g (lw_at lw_m30 166 rfl) rfl
theorem q7519 : (Jvm.Cond.fieldLink "WasteHouseModel" (76 : Nat) "WasteHouseModel" "tape" "[B") ∈ lw_all := lw_g (lw_at lw_m30 167 rfl) rfl
theorem q7520 : (Jvm.Cond.fieldLink "WasteHouseModel" (127 : Nat) "WasteHouseModel" "size" "I") ∈ lw_all := lw_g (lw_at lw_m30 168 rfl) rfl
theorem q7521 : (Jvm.Cond.fieldLink "WasteHouseModel" (124 : Nat) "WasteHouseModel" "fault" "I") ∈ lw_all := lw_g (lw_at lw_m30 169 rfl) rfl
theorem q7522 : (Jvm.Cond.fieldLink "WasteHouseModel" (81 : Nat) "WasteHouseModel" "printed" "[B") ∈ lw_all := lw_g (lw_at lw_m30 170 rfl) rfl
theorem q7523 : (Jvm.Cond.fieldLink "WasteHouseModel" (174 : Nat) "WasteHouseModel" "printedSize" "I") ∈ lw_all := lw_g (lw_at lw_m30 171 rfl) rfl
theorem q7524 : (Jvm.Cond.fieldLink "WasteHouseModel" (84 : Nat) "WasteHouseModel" "answers" "[J") ∈ lw_all := lw_g (lw_at lw_m30 172 rfl) rfl
theorem q7525 : (Jvm.Cond.fieldLink "WasteHouseModel" (157 : Nat) "WasteHouseModel" "done" "I") ∈ lw_all := lw_g (lw_at lw_m30 173 rfl) rfl
theorem q7526 : (Jvm.Cond.fieldLink "WasteHouseModel" (88 : Nat) "WasteHouseModel" "wrongWord" "I") ∈ lw_all := lw_g (lw_at lw_m30 174 rfl) rfl
theorem q7527 : (Jvm.Cond.fieldLink "WasteHouseModel" (92 : Nat) "WasteHouseModel" "starts" "[I") ∈ lw_all := lw_g (lw_at lw_m30 175 rfl) rfl
theorem q7528 : (Jvm.Cond.fieldLink "WasteHouseModel" (96 : Nat) "WasteHouseModel" "ends" "[I") ∈ lw_all := lw_g (lw_at lw_m30 176 rfl) rfl
theorem q7529 : (Jvm.Cond.fieldLink "WasteHouseModel" (133 : Nat) "WasteHouseModel" "words" "I") ∈ lw_all := lw_g (lw_at lw_m30 177 rfl) rfl
theorem q7530 : (Jvm.Cond.fieldLink "WasteHouseModel" (136 : Nat) "WasteHouseModel" "lineEnd" "I") ∈ lw_all := lw_g (lw_at lw_m30 178 rfl) rfl
theorem q7531 : (Jvm.Cond.fieldLink "WasteHouseModel" (167 : Nat) "WasteHouseModel" "wrong" "I") ∈ lw_all := lw_g (lw_at lw_m30 179 rfl) rfl
theorem q7532 : (Jvm.Cond.fieldLink "WasteHouseModel" (164 : Nat) "WasteHouseModel" "isFound" "Z") ∈ lw_all := lw_g (lw_at lw_m30 180 rfl) rfl
theorem q7533 : (Jvm.Cond.fieldLink "WasteHouseModel" (182 : Nat) "WasteHouseModel" "hasThrown" "Z") ∈ lw_all := lw_g (lw_at lw_m30 181 rfl) rfl
theorem q7534 : (Jvm.Cond.fieldLink "WasteHouseModel" (99 : Nat) "WasteHouseModel" "x" "[J") ∈ lw_all := lw_g (lw_at lw_m30 182 rfl) rfl
theorem q7535 : (Jvm.Cond.fieldLink "WasteHouseModel" (102 : Nat) "WasteHouseModel" "brought" "[J") ∈ lw_all := lw_g (lw_at lw_m30 183 rfl) rfl
theorem q7536 : (Jvm.Cond.fieldLink "WasteHouseModel" (105 : Nat) "WasteHouseModel" "sold" "[Z") ∈ lw_all := lw_g (lw_at lw_m30 184 rfl) rfl
theorem q7537 : (Jvm.Cond.fieldLink "WasteHouseModel" (109 : Nat) "WasteHouseModel" "balances" "[J") ∈ lw_all := lw_g (lw_at lw_m30 185 rfl) rfl
theorem q7538 : (Jvm.Cond.fieldLink "WasteHouseModel" (112 : Nat) "WasteHouseModel" "debits" "[I") ∈ lw_all := lw_g (lw_at lw_m30 186 rfl) rfl
theorem q7539 : (Jvm.Cond.fieldLink "WasteHouseModel" (115 : Nat) "WasteHouseModel" "credits" "[I") ∈ lw_all := lw_g (lw_at lw_m30 187 rfl) rfl
theorem q7540 : (Jvm.Cond.fieldLink "WasteHouseModel" (118 : Nat) "WasteHouseModel" "cents" "[J") ∈ lw_all := lw_g (lw_at lw_m30 188 rfl) rfl
theorem q7541 : (Jvm.Cond.fieldLink "WasteHouseModel" (256 : Nat) "WasteHouseModel" "entries" "I") ∈ lw_all := lw_g (lw_at lw_m30 189 rfl) rfl
theorem q7542 : (Jvm.Cond.fieldLink "WasteHouseModel" (121 : Nat) "WasteHouseModel" "acts" "[I") ∈ lw_all := lw_g (lw_at lw_m30 190 rfl) rfl
theorem q7543 : (Jvm.Cond.fieldLink "WasteHouseModel" (149 : Nat) "WasteHouseModel" "isNumber" "Z") ∈ lw_all := lw_g (lw_at lw_m30 191 rfl) rfl
theorem q7544 : (Jvm.Cond.laysFinal "WasteHouseModel" "WasteHouseModel" "tickets" "LWasteHouseModel$TicketChainModel;") ∈ lw_all := lw_g (lw_at lw_m30 192 rfl) rfl
theorem q7545 : (Jvm.Cond.soleField "WasteHouseModel" "tickets") ∈ lw_all := lw_g (lw_at lw_m30 193 rfl) rfl
theorem q7546 : (Jvm.Cond.laysFinal "WasteHouseModel" "WasteHouseModel" "line" "LWasteHouseModel$ShareSolveModel;") ∈ lw_all := lw_g (lw_at lw_m30 194 rfl) rfl
theorem q7547 : (Jvm.Cond.soleField "WasteHouseModel" "line") ∈ lw_all := lw_g (lw_at lw_m30 195 rfl) rfl
theorem q7548 : (Jvm.Cond.laysFinal "WasteHouseModel" "WasteHouseModel" "hazards" "LWasteHouseModel$HazardRulesModel;") ∈ lw_all := lw_g (lw_at lw_m30 196 rfl) rfl
theorem q7549 : (Jvm.Cond.soleField "WasteHouseModel" "hazards") ∈ lw_all := lw_g (lw_at lw_m30 197 rfl) rfl
theorem q7550 : (Jvm.Cond.laysFinal "WasteHouseModel" "WasteHouseModel" "rounds" "LWasteHouseModel$RoundColumnsModel;") ∈ lw_all := lw_g (lw_at lw_m30 198 rfl) rfl
theorem q7551 : (Jvm.Cond.soleField "WasteHouseModel" "rounds") ∈ lw_all := lw_g (lw_at lw_m30 199 rfl) rfl
theorem q7552 : (Jvm.Cond.laysFinal "WasteHouseModel" "WasteHouseModel" "store" "LWasteHouseModel$BarredStoresModel;") ∈ lw_all := lw_g (lw_at lw_m30 200 rfl) rfl
theorem q7553 : (Jvm.Cond.soleField "WasteHouseModel" "store") ∈ lw_all := lw_g (lw_at lw_m30 201 rfl) rfl
theorem q7554 : (Jvm.Cond.laysFinal "WasteHouseModel" "WasteHouseModel" "product" "LWasteHouseModel$PartGraphsModel;") ∈ lw_all := lw_g (lw_at lw_m30 202 rfl) rfl
theorem q7555 : (Jvm.Cond.soleField "WasteHouseModel" "product") ∈ lw_all := lw_g (lw_at lw_m30 203 rfl) rfl
theorem q7556 : (Jvm.Cond.laysFinal "WasteHouseModel" "WasteHouseModel" "apart" "LWasteHouseModel$ApartCostModel;") ∈ lw_all := lw_g (lw_at lw_m30 204 rfl) rfl
theorem q7557 : (Jvm.Cond.soleField "WasteHouseModel" "apart") ∈ lw_all := lw_g (lw_at lw_m30 205 rfl) rfl
theorem q7558 : (Jvm.Cond.laysFinal "WasteHouseModel" "WasteHouseModel" "samples" "LWasteHouseModel$PurityOddsModel;") ∈ lw_all := lw_g (lw_at lw_m30 206 rfl) rfl
theorem q7559 : (Jvm.Cond.soleField "WasteHouseModel" "samples") ∈ lw_all := lw_g (lw_at lw_m30 207 rfl) rfl
theorem q7560 : (Jvm.Cond.laysFinal "WasteHouseModel" "WasteHouseModel" "deposits" "LWasteHouseModel$DepositCodesModel;") ∈ lw_all := lw_g (lw_at lw_m30 208 rfl) rfl
theorem q7561 : (Jvm.Cond.soleField "WasteHouseModel" "deposits") ∈ lw_all := lw_g (lw_at lw_m30 209 rfl) rfl
theorem q7562 : (Jvm.Cond.laysFinal "WasteHouseModel" "WasteHouseModel" "tape" "[B") ∈ lw_all := lw_g (lw_at lw_m30 210 rfl) rfl
theorem q7563 : (Jvm.Cond.soleField "WasteHouseModel" "tape") ∈ lw_all := lw_g (lw_at lw_m30 211 rfl) rfl
theorem q7564 : (Jvm.Cond.lays "WasteHouseModel" "WasteHouseModel" "size" "I") ∈ lw_all := lw_g (lw_at lw_m30 212 rfl) rfl
theorem q7565 : (Jvm.Cond.soleField "WasteHouseModel" "size") ∈ lw_all := lw_g (lw_at lw_m30 213 rfl) rfl
theorem q7566 : (Jvm.Cond.lays "WasteHouseModel" "WasteHouseModel" "fault" "I") ∈ lw_all := lw_g (lw_at lw_m30 214 rfl) rfl
theorem q7567 : (Jvm.Cond.soleField "WasteHouseModel" "fault") ∈ lw_all := lw_g (lw_at lw_m30 215 rfl) rfl
theorem q7568 : (Jvm.Cond.laysFinal "WasteHouseModel" "WasteHouseModel" "printed" "[B") ∈ lw_all := lw_g (lw_at lw_m30 216 rfl) rfl
theorem q7569 : (Jvm.Cond.soleField "WasteHouseModel" "printed") ∈ lw_all := lw_g (lw_at lw_m30 217 rfl) rfl
theorem q7570 : (Jvm.Cond.lays "WasteHouseModel" "WasteHouseModel" "printedSize" "I") ∈ lw_all := lw_g (lw_at lw_m30 218 rfl) rfl
theorem q7571 : (Jvm.Cond.soleField "WasteHouseModel" "printedSize") ∈ lw_all := lw_g (lw_at lw_m30 219 rfl) rfl
theorem q7572 : (Jvm.Cond.laysFinal "WasteHouseModel" "WasteHouseModel" "answers" "[J") ∈ lw_all := lw_g (lw_at lw_m30 220 rfl) rfl
theorem q7573 : (Jvm.Cond.soleField "WasteHouseModel" "answers") ∈ lw_all := lw_g (lw_at lw_m30 221 rfl) rfl
theorem q7574 : (Jvm.Cond.lays "WasteHouseModel" "WasteHouseModel" "done" "I") ∈ lw_all := lw_g (lw_at lw_m30 222 rfl) rfl
theorem q7575 : (Jvm.Cond.soleField "WasteHouseModel" "done") ∈ lw_all := lw_g (lw_at lw_m30 223 rfl) rfl
theorem q7576 : (Jvm.Cond.lays "WasteHouseModel" "WasteHouseModel" "wrongWord" "I") ∈ lw_all := lw_g (lw_at lw_m30 224 rfl) rfl
theorem q7577 : (Jvm.Cond.soleField "WasteHouseModel" "wrongWord") ∈ lw_all := lw_g (lw_at lw_m30 225 rfl) rfl
theorem q7578 : (Jvm.Cond.laysFinal "WasteHouseModel" "WasteHouseModel" "starts" "[I") ∈ lw_all := lw_g (lw_at lw_m30 226 rfl) rfl
theorem q7579 : (Jvm.Cond.soleField "WasteHouseModel" "starts") ∈ lw_all := lw_g (lw_at lw_m30 227 rfl) rfl
theorem q7580 : (Jvm.Cond.laysFinal "WasteHouseModel" "WasteHouseModel" "ends" "[I") ∈ lw_all := lw_g (lw_at lw_m30 228 rfl) rfl
theorem q7581 : (Jvm.Cond.soleField "WasteHouseModel" "ends") ∈ lw_all := lw_g (lw_at lw_m30 229 rfl) rfl
theorem q7582 : (Jvm.Cond.lays "WasteHouseModel" "WasteHouseModel" "words" "I") ∈ lw_all := lw_g (lw_at lw_m30 230 rfl) rfl
theorem q7583 : (Jvm.Cond.soleField "WasteHouseModel" "words") ∈ lw_all := lw_g (lw_at lw_m30 231 rfl) rfl
theorem q7584 : (Jvm.Cond.lays "WasteHouseModel" "WasteHouseModel" "lineEnd" "I") ∈ lw_all := lw_g (lw_at lw_m30 232 rfl) rfl
theorem q7585 : (Jvm.Cond.soleField "WasteHouseModel" "lineEnd") ∈ lw_all := lw_g (lw_at lw_m30 233 rfl) rfl
theorem q7586 : (Jvm.Cond.lays "WasteHouseModel" "WasteHouseModel" "wrong" "I") ∈ lw_all := lw_g (lw_at lw_m30 234 rfl) rfl
theorem q7587 : (Jvm.Cond.soleField "WasteHouseModel" "wrong") ∈ lw_all := lw_g (lw_at lw_m30 235 rfl) rfl
theorem q7588 : (Jvm.Cond.lays "WasteHouseModel" "WasteHouseModel" "isFound" "Z") ∈ lw_all := lw_g (lw_at lw_m30 236 rfl) rfl
theorem q7589 : (Jvm.Cond.soleField "WasteHouseModel" "isFound") ∈ lw_all := lw_g (lw_at lw_m30 237 rfl) rfl
theorem q7590 : (Jvm.Cond.lays "WasteHouseModel" "WasteHouseModel" "hasThrown" "Z") ∈ lw_all := lw_g (lw_at lw_m30 238 rfl) rfl
theorem q7591 : (Jvm.Cond.soleField "WasteHouseModel" "hasThrown") ∈ lw_all := lw_g (lw_at lw_m30 239 rfl) rfl
theorem q7592 : (Jvm.Cond.laysFinal "WasteHouseModel" "WasteHouseModel" "x" "[J") ∈ lw_all := lw_g (lw_at lw_m31 0 rfl) rfl
theorem q7593 : (Jvm.Cond.soleField "WasteHouseModel" "x") ∈ lw_all := lw_g (lw_at lw_m31 1 rfl) rfl
theorem q7594 : (Jvm.Cond.laysFinal "WasteHouseModel" "WasteHouseModel" "brought" "[J") ∈ lw_all := lw_g (lw_at lw_m31 2 rfl) rfl
theorem q7595 : (Jvm.Cond.soleField "WasteHouseModel" "brought") ∈ lw_all := lw_g (lw_at lw_m31 3 rfl) rfl
theorem q7596 : (Jvm.Cond.laysFinal "WasteHouseModel" "WasteHouseModel" "sold" "[Z") ∈ lw_all := lw_g (lw_at lw_m31 4 rfl) rfl
theorem q7597 : (Jvm.Cond.soleField "WasteHouseModel" "sold") ∈ lw_all := lw_g (lw_at lw_m31 5 rfl) rfl
theorem q7598 : (Jvm.Cond.laysFinal "WasteHouseModel" "WasteHouseModel" "balances" "[J") ∈ lw_all := lw_g (lw_at lw_m31 6 rfl) rfl
theorem q7599 : (Jvm.Cond.soleField "WasteHouseModel" "balances") ∈ lw_all := lw_g (lw_at lw_m31 7 rfl) rfl
theorem q7600 : (Jvm.Cond.laysFinal "WasteHouseModel" "WasteHouseModel" "debits" "[I") ∈ lw_all := lw_g (lw_at lw_m31 8 rfl) rfl
theorem q7601 : (Jvm.Cond.soleField "WasteHouseModel" "debits") ∈ lw_all := lw_g (lw_at lw_m31 9 rfl) rfl
theorem q7602 : (Jvm.Cond.laysFinal "WasteHouseModel" "WasteHouseModel" "credits" "[I") ∈ lw_all := lw_g (lw_at lw_m31 10 rfl) rfl
theorem q7603 : (Jvm.Cond.soleField "WasteHouseModel" "credits") ∈ lw_all := lw_g (lw_at lw_m31 11 rfl) rfl
theorem q7604 : (Jvm.Cond.laysFinal "WasteHouseModel" "WasteHouseModel" "cents" "[J") ∈ lw_all := lw_g (lw_at lw_m31 12 rfl) rfl
theorem q7605 : (Jvm.Cond.soleField "WasteHouseModel" "cents") ∈ lw_all := lw_g (lw_at lw_m31 13 rfl) rfl
theorem q7606 : (Jvm.Cond.lays "WasteHouseModel" "WasteHouseModel" "entries" "I") ∈ lw_all := lw_g (lw_at lw_m31 14 rfl) rfl
theorem q7607 : (Jvm.Cond.soleField "WasteHouseModel" "entries") ∈ lw_all := lw_g (lw_at lw_m31 15 rfl) rfl
theorem q7608 : (Jvm.Cond.laysFinal "WasteHouseModel" "WasteHouseModel" "acts" "[I") ∈ lw_all := lw_g (lw_at lw_m31 16 rfl) rfl
theorem q7609 : (Jvm.Cond.soleField "WasteHouseModel" "acts") ∈ lw_all := lw_g (lw_at lw_m31 17 rfl) rfl
theorem q7610 : (Jvm.Cond.lays "WasteHouseModel" "WasteHouseModel" "isNumber" "Z") ∈ lw_all := lw_g (lw_at lw_m31 18 rfl) rfl
theorem q7611 : (Jvm.Cond.soleField "WasteHouseModel" "isNumber") ∈ lw_all := lw_g (lw_at lw_m31 19 rfl) rfl
theorem q7612 : (Jvm.Cond.superclass "WasteHouseModel" "java/lang/Object") ∈ lw_all := lw_g (lw_at lw_m31 20 rfl) rfl
theorem q7614 : (Jvm.Cond.instanceMethod ({ cls := "WasteHouseModel", name := "thrown", desc := "()I" } : Jvm.MethodName)) ∈ lw_all := lw_g (lw_at lw_m31 22 rfl) rfl
theorem q7615 : (Jvm.Cond.selects "WasteHouseModel" ({ cls := "WasteHouseModel", name := "thrown", desc := "()I" } : Jvm.MethodName) ({ cls := "WasteHouseModel", name := "thrown", desc := "()I" } : Jvm.MethodName)) ∈ lw_all := lw_g (lw_at lw_m31 23 rfl) rfl
theorem q7616 : (Jvm.Cond.code ({ cls := "WasteHouseModel", name := "thrown", desc := "()I" } : Jvm.MethodName) prog_56_method_2_code (1 : Nat) (Option.some Jvm.ClassFile.FieldType.int)) ∈ lw_all := lw_g (lw_at lw_m31 24 rfl) rfl
theorem q7618 : (Jvm.Cond.instanceMethod ({ cls := "WasteHouseModel", name := "feed", desc := "(IIIII)V" } : Jvm.MethodName)) ∈ lw_all := lw_g (lw_at lw_m31 26 rfl) rfl
theorem q7619 : (Jvm.Cond.selects "WasteHouseModel" ({ cls := "WasteHouseModel", name := "feed", desc := "(IIIII)V" } : Jvm.MethodName) ({ cls := "WasteHouseModel", name := "feed", desc := "(IIIII)V" } : Jvm.MethodName)) ∈ lw_all := lw_g (lw_at lw_m31 27 rfl) rfl
theorem q7620 : (Jvm.Cond.code ({ cls := "WasteHouseModel", name := "feed", desc := "(IIIII)V" } : Jvm.MethodName) prog_56_method_4_code (6 : Nat) (Option.none : Option Jvm.ClassFile.FieldType)) ∈ lw_all := lw_g (lw_at lw_m31 28 rfl) rfl
theorem q7621 : (Jvm.Cond.methodLink "WasteHouseModel" (130 : Nat) ({ cls := "WasteHouseModel", name := "take", desc := "(I)V" } : Jvm.MethodName)) ∈ lw_all := lw_g (lw_at lw_m31 29 rfl) rfl
theorem q7622 : (Jvm.Cond.privateMethod ({ cls := "WasteHouseModel", name := "take", desc := "(I)V" } : Jvm.MethodName)) ∈ lw_tbl := lw_at lw_m31 30 rfl
theorem q7623 : (Jvm.Cond.instanceMethod ({ cls := "WasteHouseModel", name := "take", desc := "(I)V" } : Jvm.MethodName)) ∈ lw_all := lw_g (lw_at lw_m31 31 rfl) rfl
theorem q7624 : (Jvm.Cond.code ({ cls := "WasteHouseModel", name := "take", desc := "(I)V" } : Jvm.MethodName) prog_56_method_3_code (3 : Nat) (Option.none : Option Jvm.ClassFile.FieldType)) ∈ lw_all := lw_g (lw_at lw_m31 32 rfl) rfl
theorem q7626 : (Jvm.Cond.instanceMethod ({ cls := "WasteHouseModel", name := "end", desc := "(I)I" } : Jvm.MethodName)) ∈ lw_all := lw_g (lw_at lw_m31 34 rfl) rfl
theorem q7627 : (Jvm.Cond.selects "WasteHouseModel" ({ cls := "WasteHouseModel", name := "end", desc := "(I)I" } : Jvm.MethodName) ({ cls := "WasteHouseModel", name := "end", desc := "(I)I" } : Jvm.MethodName)) ∈ lw_all := lw_g (lw_at lw_m31 35 rfl) rfl
theorem q7628 : (Jvm.Cond.code ({ cls := "WasteHouseModel", name := "end", desc := "(I)I" } : Jvm.MethodName) prog_56_method_5_code (3 : Nat) (Option.some Jvm.ClassFile.FieldType.int)) ∈ lw_all := lw_g (lw_at lw_m31 36 rfl) rfl
theorem q7630 : (Jvm.Cond.instanceMethod ({ cls := "WasteHouseModel", name := "run", desc := "()I" } : Jvm.MethodName)) ∈ lw_all := lw_g (lw_at lw_m31 38 rfl) rfl
theorem q7631 : (Jvm.Cond.selects "WasteHouseModel" ({ cls := "WasteHouseModel", name := "run", desc := "()I" } : Jvm.MethodName) ({ cls := "WasteHouseModel", name := "run", desc := "()I" } : Jvm.MethodName)) ∈ lw_all := lw_g (lw_at lw_m31 39 rfl) rfl
theorem q7632 : (Jvm.Cond.code ({ cls := "WasteHouseModel", name := "run", desc := "()I" } : Jvm.MethodName) prog_56_method_15_code (7 : Nat) (Option.some Jvm.ClassFile.FieldType.int)) ∈ lw_all := lw_g (lw_at lw_m31 40 rfl) rfl
theorem q7633 : (Jvm.Cond.methodLink "WasteHouseModel" (224 : Nat) ({ cls := "WasteHouseModel", name := "split", desc := "(II)V" } : Jvm.MethodName)) ∈ lw_all := lw_g (lw_at lw_m31 41 rfl) rfl
theorem q7634 : (Jvm.Cond.privateMethod ({ cls := "WasteHouseModel", name := "split", desc := "(II)V" } : Jvm.MethodName)) ∈ lw_tbl := lw_at lw_m31 42 rfl
theorem q7635 : (Jvm.Cond.instanceMethod ({ cls := "WasteHouseModel", name := "split", desc := "(II)V" } : Jvm.MethodName)) ∈ lw_all := lw_g (lw_at lw_m31 43 rfl) rfl
theorem q7636 : (Jvm.Cond.code ({ cls := "WasteHouseModel", name := "split", desc := "(II)V" } : Jvm.MethodName) prog_56_method_6_code (5 : Nat) (Option.none : Option Jvm.ClassFile.FieldType)) ∈ lw_all := lw_g (lw_at lw_m31 44 rfl) rfl
theorem q7637 : (Jvm.Cond.methodLink "WasteHouseModel" (228 : Nat) ({ cls := "WasteHouseModel", name := "doLine", desc := "()J" } : Jvm.MethodName)) ∈ lw_all := lw_g (lw_at lw_m31 45 rfl) rfl
theorem q7638 : (Jvm.Cond.privateMethod ({ cls := "WasteHouseModel", name := "doLine", desc := "()J" } : Jvm.MethodName)) ∈ lw_tbl := lw_at lw_m31 46 rfl
theorem q7639 : (Jvm.Cond.instanceMethod ({ cls := "WasteHouseModel", name := "doLine", desc := "()J" } : Jvm.MethodName)) ∈ lw_all := lw_g (lw_at lw_m31 47 rfl) rfl
theorem q7640 : (Jvm.Cond.code ({ cls := "WasteHouseModel", name := "doLine", desc := "()J" } : Jvm.MethodName) prog_56_method_14_code (3 : Nat) (Option.some Jvm.ClassFile.FieldType.long)) ∈ lw_all := lw_g (lw_at lw_m31 48 rfl) rfl
theorem q7641 : (Jvm.Cond.stringRef "WasteHouseModel" (185 : Nat) "house") ∈ lw_tbl := lw_at lw_m31 49 rfl
theorem q7642 : (Jvm.Cond.methodLink "WasteHouseModel" (160 : Nat) ({ cls := "WasteHouseModel", name := "is", desc := "(ILjava/lang/String;)Z" } : Jvm.MethodName)) ∈ lw_all := lw_g (lw_at lw_m31 50 rfl) rfl
theorem q7643 : (Jvm.Cond.privateMethod ({ cls := "WasteHouseModel", name := "is", desc := "(ILjava/lang/String;)Z" } : Jvm.MethodName)) ∈ lw_tbl := lw_at lw_m31 51 rfl
theorem q7644 : (Jvm.Cond.instanceMethod ({ cls := "WasteHouseModel", name := "is", desc := "(ILjava/lang/String;)Z" } : Jvm.MethodName)) ∈ lw_all := lw_g (lw_at lw_m31 52 rfl) rfl
theorem q7645 : (Jvm.Cond.code ({ cls := "WasteHouseModel", name := "is", desc := "(ILjava/lang/String;)Z" } : Jvm.MethodName) prog_56_method_7_code (6 : Nat) (Option.some Jvm.ClassFile.FieldType.boolean)) ∈ lw_all := lw_g (lw_at lw_m31 53 rfl) rfl
theorem q7646 : (Jvm.Cond.methodLink "WasteHouseModel" (139 : Nat) ({ cls := "java/lang/String", name := "length", desc := "()I" } : Jvm.MethodName)) ∈ lw_all := lw_g (lw_at lw_m31 54 rfl) rfl
theorem q7647 : (Jvm.Cond.methodLink "WasteHouseModel" (145 : Nat) ({ cls := "java/lang/String", name := "charAt", desc := "(I)C" } : Jvm.MethodName)) ∈ lw_all := lw_g (lw_at lw_m31 55 rfl) rfl
theorem q7648 : (Jvm.Cond.methodLink "WasteHouseModel" (187 : Nat) ({ cls := "WasteHouseModel", name := "house", desc := "()J" } : Jvm.MethodName)) ∈ lw_all := lw_g (lw_at lw_m31 56 rfl) rfl
theorem q7649 : (Jvm.Cond.privateMethod ({ cls := "WasteHouseModel", name := "house", desc := "()J" } : Jvm.MethodName)) ∈ lw_tbl := lw_at lw_m31 57 rfl
theorem q7650 : (Jvm.Cond.instanceMethod ({ cls := "WasteHouseModel", name := "house", desc := "()J" } : Jvm.MethodName)) ∈ lw_all := lw_g (lw_at lw_m31 58 rfl) rfl
theorem q7651 : (Jvm.Cond.code ({ cls := "WasteHouseModel", name := "house", desc := "()J" } : Jvm.MethodName) prog_56_method_27_code (1 : Nat) (Option.some Jvm.ClassFile.FieldType.long)) ∈ lw_all := lw_g (lw_at lw_m31 59 rfl) rfl
theorem q7652 : (Jvm.Cond.stringRef "WasteHouseModel" (259 : Nat) "bring") ∈ lw_tbl := lw_at lw_m31 60 rfl
theorem q7653 : (Jvm.Cond.stringRef "WasteHouseModel" (261 : Nat) "iiili") ∈ lw_tbl := lw_at lw_m31 61 rfl
theorem q7654 : (Jvm.Cond.methodLink "WasteHouseModel" (263 : Nat) ({ cls := "WasteHouseModel", name := "isCall", desc := "(Ljava/lang/String;Ljava/lang/String;)Z" } : Jvm.MethodName)) ∈ lw_all := lw_g (lw_at lw_m31 62 rfl) rfl
theorem q7655 : (Jvm.Cond.privateMethod ({ cls := "WasteHouseModel", name := "isCall", desc := "(Ljava/lang/String;Ljava/lang/String;)Z" } : Jvm.MethodName)) ∈ lw_tbl := lw_at lw_m31 63 rfl
theorem q7656 : (Jvm.Cond.instanceMethod ({ cls := "WasteHouseModel", name := "isCall", desc := "(Ljava/lang/String;Ljava/lang/String;)Z" } : Jvm.MethodName)) ∈ lw_all := lw_g (lw_at lw_m31 64 rfl) rfl
theorem q7657 : (Jvm.Cond.code ({ cls := "WasteHouseModel", name := "isCall", desc := "(Ljava/lang/String;Ljava/lang/String;)Z" } : Jvm.MethodName) prog_56_method_9_code (7 : Nat) (Option.some Jvm.ClassFile.FieldType.boolean)) ∈ lw_all := lw_g (lw_at lw_m31 65 rfl) rfl
theorem q7658 : (Jvm.Cond.methodLink "WasteHouseModel" (170 : Nat) ({ cls := "WasteHouseModel", name := "numberOf", desc := "(I)J" } : Jvm.MethodName)) ∈ lw_all := lw_g (lw_at lw_m31 66 rfl) rfl
theorem q7659 : (Jvm.Cond.privateMethod ({ cls := "WasteHouseModel", name := "numberOf", desc := "(I)J" } : Jvm.MethodName)) ∈ lw_tbl := lw_at lw_m31 67 rfl
theorem q7660 : (Jvm.Cond.instanceMethod ({ cls := "WasteHouseModel", name := "numberOf", desc := "(I)J" } : Jvm.MethodName)) ∈ lw_all := lw_g (lw_at lw_m31 68 rfl) rfl
theorem q7661 : (Jvm.Cond.code ({ cls := "WasteHouseModel", name := "numberOf", desc := "(I)J" } : Jvm.MethodName) prog_56_method_8_code (10 : Nat) (Option.some Jvm.ClassFile.FieldType.long)) ∈ lw_all := lw_g (lw_at lw_m31 69 rfl) rfl
theorem q7662 : (Jvm.Cond.constantLong "WasteHouseModel" (153 : Nat) (10 : Int64)) ∈ lw_all := lw_g (lw_at lw_m31 70 rfl) rfl
theorem q7663 : (Jvm.Cond.constantLong "WasteHouseModel" (155 : Nat) (48 : Int64)) ∈ lw_all := lw_g (lw_at lw_m31 71 rfl) rfl
theorem q7664 : (Jvm.Cond.methodLink "WasteHouseModel" (267 : Nat) ({ cls := "WasteHouseModel", name := "bring", desc := "(IIIJI)J" } : Jvm.MethodName)) ∈ lw_all := lw_g (lw_at lw_m31 72 rfl) rfl
theorem q7665 : (Jvm.Cond.privateMethod ({ cls := "WasteHouseModel", name := "bring", desc := "(IIIJI)J" } : Jvm.MethodName)) ∈ lw_tbl := lw_at lw_m31 73 rfl
theorem q7666 : (Jvm.Cond.instanceMethod ({ cls := "WasteHouseModel", name := "bring", desc := "(IIIJI)J" } : Jvm.MethodName)) ∈ lw_all := lw_g (lw_at lw_m31 74 rfl) rfl
theorem q7667 : (Jvm.Cond.code ({ cls := "WasteHouseModel", name := "bring", desc := "(IIIJI)J" } : Jvm.MethodName) prog_56_method_29_code (15 : Nat) (Option.some Jvm.ClassFile.FieldType.long)) ∈ lw_all := lw_g (lw_at lw_m31 75 rfl) rfl
theorem q7668 : (Jvm.Cond.methodLinkNest "WasteHouseModel" (335 : Nat) ({ cls := "WasteHouseModel$RoundColumnsModel", name := "columnSet", desc := "(I)I" } : Jvm.MethodName) "WasteHouseModel") ∈ lw_tbl := lw_at lw_m31 76 rfl
theorem q7672 : (Jvm.Cond.constantLong "WasteHouseModel" (234 : Nat) (-1 : Int64)) ∈ lw_all := lw_g (lw_at lw_m31 80 rfl) rfl
theorem q7673 : (Jvm.Cond.constantLong "WasteHouseModel" (338 : Nat) (86400 : Int64)) ∈ lw_all := lw_g (lw_at lw_m31 81 rfl) rfl
theorem q7674 : (Jvm.Cond.constantLong "WasteHouseModel" (340 : Nat) (2147483647 : Int64)) ∈ lw_all := lw_g (lw_at lw_m31 82 rfl) rfl
theorem q7675 : (Jvm.Cond.constant "WasteHouseModel" (342 : Nat) (2147483647 : Int32)) ∈ lw_all := lw_g (lw_at lw_m31 83 rfl) rfl
theorem q7676 : (Jvm.Cond.methodLinkNest "WasteHouseModel" (343 : Nat) ({ cls := "WasteHouseModel$TicketChainModel", name := "tareOf", desc := "(II)J" } : Jvm.MethodName) "WasteHouseModel") ∈ lw_tbl := lw_at lw_m31 84 rfl
theorem q7681 : (Jvm.Cond.methodLinkNest "WasteHouseModel" (346 : Nat) ({ cls := "WasteHouseModel$RoundColumnsModel", name := "kilogramsOf", desc := "(I)I" } : Jvm.MethodName) "WasteHouseModel") ∈ lw_tbl := lw_at lw_m31 89 rfl
theorem q7688 : (Jvm.Cond.methodLink "WasteHouseModel" (349 : Nat) ({ cls := "WasteHouseModel$TicketChainModel", name := "ticket", desc := "(IIJJJI)I" } : Jvm.MethodName)) ∈ lw_all := lw_g (lw_at lw_m31 96 rfl) rfl
theorem q7739 : (Jvm.Cond.methodLink "WasteHouseModel" (353 : Nat) ({ cls := "WasteHouseModel$ShareSolveModel", name := "feed", desc := "(IIJ)Z" } : Jvm.MethodName)) ∈ lw_all := lw_g (lw_at lw_m31 147 rfl) rfl
theorem q7756 : (Jvm.Cond.stringRef "WasteHouseModel" (270 : Nat) "sort") ∈ lw_tbl := lw_at lw_m31 164 rfl
theorem q7757 : (Jvm.Cond.stringRef "WasteHouseModel" (272 : Nat) "") ∈ lw_tbl := lw_at lw_m31 165 rfl
theorem q7758 : (Jvm.Cond.methodLink "WasteHouseModel" (274 : Nat) ({ cls := "WasteHouseModel", name := "sort", desc := "()J" } : Jvm.MethodName)) ∈ lw_all := lw_g (lw_at lw_m31 166 rfl) rfl
theorem q7759 : (Jvm.Cond.privateMethod ({ cls := "WasteHouseModel", name := "sort", desc := "()J" } : Jvm.MethodName)) ∈ lw_tbl := lw_at lw_m31 167 rfl
theorem q7760 : (Jvm.Cond.instanceMethod ({ cls := "WasteHouseModel", name := "sort", desc := "()J" } : Jvm.MethodName)) ∈ lw_all := lw_g (lw_at lw_m31 168 rfl) rfl
theorem q7761 : (Jvm.Cond.code ({ cls := "WasteHouseModel", name := "sort", desc := "()J" } : Jvm.MethodName) prog_56_method_30_code (8 : Nat) (Option.some Jvm.ClassFile.FieldType.long)) ∈ lw_all := lw_g (lw_at lw_m31 169 rfl) rfl
theorem q7762 : (Jvm.Cond.methodLink "WasteHouseModel" (357 : Nat) ({ cls := "WasteHouseModel$ShareSolveModel", name := "solve", desc := "()I" } : Jvm.MethodName)) ∈ lw_all := lw_g (lw_at lw_m31 170 rfl) rfl
theorem q7798 : (Jvm.Cond.methodLink "WasteHouseModel" (360 : Nat) ({ cls := "WasteHouseModel$ShareSolveModel", name := "out", desc := "(III)J" } : Jvm.MethodName)) ∈ lw_all := lw_g (lw_at lw_m31 206 rfl) rfl
theorem q7896 : (Jvm.Cond.methodLink "WasteHouseModel" (364 : Nat) ({ cls := "WasteHouseModel$PurityOddsModel", name := "lot", desc := "(J)I" } : Jvm.MethodName)) ∈ lw_all := lw_g (lw_at lw_m32 64 rfl) rfl
theorem q7901 : (Jvm.Cond.methodLink "WasteHouseModel" (368 : Nat) ({ cls := "WasteHouseModel$PurityOddsModel", name := "piece", desc := "(IIJ)Z" } : Jvm.MethodName)) ∈ lw_all := lw_g (lw_at lw_m32 69 rfl) rfl
theorem q7910 : (Jvm.Cond.stringRef "WasteHouseModel" (276 : Nat) "sell") ∈ lw_tbl := lw_at lw_m32 78 rfl
theorem q7911 : (Jvm.Cond.stringRef "WasteHouseModel" (278 : Nat) "i") ∈ lw_tbl := lw_at lw_m32 79 rfl
theorem q7912 : (Jvm.Cond.methodLink "WasteHouseModel" (280 : Nat) ({ cls := "WasteHouseModel", name := "sell", desc := "(I)J" } : Jvm.MethodName)) ∈ lw_all := lw_g (lw_at lw_m32 80 rfl) rfl
theorem q7913 : (Jvm.Cond.privateMethod ({ cls := "WasteHouseModel", name := "sell", desc := "(I)J" } : Jvm.MethodName)) ∈ lw_tbl := lw_at lw_m32 81 rfl
theorem q7914 : (Jvm.Cond.instanceMethod ({ cls := "WasteHouseModel", name := "sell", desc := "(I)J" } : Jvm.MethodName)) ∈ lw_all := lw_g (lw_at lw_m32 82 rfl) rfl
theorem q7915 : (Jvm.Cond.code ({ cls := "WasteHouseModel", name := "sell", desc := "(I)J" } : Jvm.MethodName) prog_56_method_31_code (4 : Nat) (Option.some Jvm.ClassFile.FieldType.long)) ∈ lw_all := lw_g (lw_at lw_m32 83 rfl) rfl
theorem q7916 : (Jvm.Cond.methodLink "WasteHouseModel" (371 : Nat) ({ cls := "WasteHouseModel$PurityOddsModel", name := "price", desc := "(I)J" } : Jvm.MethodName)) ∈ lw_all := lw_g (lw_at lw_m32 84 rfl) rfl
theorem q7942 : (Jvm.Cond.methodLink "WasteHouseModel" (374 : Nat) ({ cls := "WasteHouseModel", name := "enter", desc := "(IIJ)V" } : Jvm.MethodName)) ∈ lw_all := lw_g (lw_at lw_m32 110 rfl) rfl
theorem q7943 : (Jvm.Cond.privateMethod ({ cls := "WasteHouseModel", name := "enter", desc := "(IIJ)V" } : Jvm.MethodName)) ∈ lw_tbl := lw_at lw_m32 111 rfl
theorem q7944 : (Jvm.Cond.instanceMethod ({ cls := "WasteHouseModel", name := "enter", desc := "(IIJ)V" } : Jvm.MethodName)) ∈ lw_all := lw_g (lw_at lw_m32 112 rfl) rfl
theorem q7945 : (Jvm.Cond.code ({ cls := "WasteHouseModel", name := "enter", desc := "(IIJ)V" } : Jvm.MethodName) prog_56_method_26_code (5 : Nat) (Option.none : Option Jvm.ClassFile.FieldType)) ∈ lw_all := lw_g (lw_at lw_m32 113 rfl) rfl
theorem q7946 : (Jvm.Cond.stringRef "WasteHouseModel" (282 : Nat) "class") ∈ lw_tbl := lw_at lw_m32 114 rfl
theorem q7947 : (Jvm.Cond.stringRef "WasteHouseModel" (284 : Nat) "il") ∈ lw_tbl := lw_at lw_m32 115 rfl
theorem q7948 : (Jvm.Cond.methodLink "WasteHouseModel" (286 : Nat) ({ cls := "WasteHouseModel", name := "classify", desc := "(IJ)J" } : Jvm.MethodName)) ∈ lw_all := lw_g (lw_at lw_m32 116 rfl) rfl
theorem q7949 : (Jvm.Cond.privateMethod ({ cls := "WasteHouseModel", name := "classify", desc := "(IJ)J" } : Jvm.MethodName)) ∈ lw_tbl := lw_at lw_m32 117 rfl
theorem q7950 : (Jvm.Cond.instanceMethod ({ cls := "WasteHouseModel", name := "classify", desc := "(IJ)J" } : Jvm.MethodName)) ∈ lw_all := lw_g (lw_at lw_m32 118 rfl) rfl
theorem q7951 : (Jvm.Cond.code ({ cls := "WasteHouseModel", name := "classify", desc := "(IJ)J" } : Jvm.MethodName) prog_56_method_32_code (10 : Nat) (Option.some Jvm.ClassFile.FieldType.long)) ∈ lw_all := lw_g (lw_at lw_m32 119 rfl) rfl
theorem q7952 : (Jvm.Cond.methodLink "WasteHouseModel" (378 : Nat) ({ cls := "WasteHouseModel$PurityOddsModel", name := "share", desc := "(III)J" } : Jvm.MethodName)) ∈ lw_all := lw_g (lw_at lw_m32 120 rfl) rfl
theorem q7962 : (Jvm.Cond.constantLong "WasteHouseModel" (381 : Nat) (1000 : Int64)) ∈ lw_all := lw_g (lw_at lw_m32 130 rfl) rfl
theorem q7963 : (Jvm.Cond.methodLink "WasteHouseModel" (383 : Nat) ({ cls := "WasteHouseModel$HazardRulesModel", name := "part", desc := "(IJJ)Z" } : Jvm.MethodName)) ∈ lw_all := lw_g (lw_at lw_m32 131 rfl) rfl
theorem q7968 : (Jvm.Cond.methodLink "WasteHouseModel" (387 : Nat) ({ cls := "WasteHouseModel$HazardRulesModel", name := "run", desc := "(J)I" } : Jvm.MethodName)) ∈ lw_all := lw_g (lw_at lw_m32 136 rfl) rfl
theorem q8061 : (Jvm.Cond.methodLink "WasteHouseModel" (390 : Nat) ({ cls := "WasteHouseModel$HazardRulesModel", name := "moving", desc := "()I" } : Jvm.MethodName)) ∈ lw_all := lw_g (lw_at lw_m32 229 rfl) rfl
theorem q8069 : (Jvm.Cond.stringRef "WasteHouseModel" (290 : Nat) "keep") ∈ lw_tbl := lw_at lw_m32 237 rfl
theorem q8070 : (Jvm.Cond.stringRef "WasteHouseModel" (292 : Nat) "ii") ∈ lw_tbl := lw_at lw_m32 238 rfl
theorem q8071 : (Jvm.Cond.methodLink "WasteHouseModel" (294 : Nat) ({ cls := "WasteHouseModel", name := "keep", desc := "(II)J" } : Jvm.MethodName)) ∈ lw_all := lw_g (lw_at lw_m32 239 rfl) rfl
theorem q8072 : (Jvm.Cond.privateMethod ({ cls := "WasteHouseModel", name := "keep", desc := "(II)J" } : Jvm.MethodName)) ∈ lw_tbl := lw_at lw_m33 0 rfl
theorem q8073 : (Jvm.Cond.instanceMethod ({ cls := "WasteHouseModel", name := "keep", desc := "(II)J" } : Jvm.MethodName)) ∈ lw_all := lw_g (lw_at lw_m33 1 rfl) rfl
theorem q8074 : (Jvm.Cond.code ({ cls := "WasteHouseModel", name := "keep", desc := "(II)J" } : Jvm.MethodName) prog_56_method_33_code (9 : Nat) (Option.some Jvm.ClassFile.FieldType.long)) ∈ lw_all := lw_g (lw_at lw_m33 2 rfl) rfl
theorem q8075 : (Jvm.Cond.methodLinkNest "WasteHouseModel" (393 : Nat) ({ cls := "WasteHouseModel$PurityOddsModel", name := "isLot", desc := "(I)Z" } : Jvm.MethodName) "WasteHouseModel") ∈ lw_tbl := lw_at lw_m33 3 rfl
theorem q8076 : (Jvm.Cond.constantLong "WasteHouseModel" (399 : Nat) (100000000 : Int64)) ∈ lw_all := lw_g (lw_at lw_m33 4 rfl) rfl
theorem q8077 : (Jvm.Cond.constantLong "WasteHouseModel" (401 : Nat) (100000 : Int64)) ∈ lw_all := lw_g (lw_at lw_m33 5 rfl) rfl
theorem q8078 : (Jvm.Cond.methodLink "WasteHouseModel" (403 : Nat) ({ cls := "WasteHouseModel$BarredStoresModel", name := "load", desc := "(IJJ)I" } : Jvm.MethodName)) ∈ lw_all := lw_g (lw_at lw_m33 6 rfl) rfl
theorem q8090 : (Jvm.Cond.methodLink "WasteHouseModel" (407 : Nat) ({ cls := "WasteHouseModel$BarredStoresModel", name := "put", desc := "(II)I" } : Jvm.MethodName)) ∈ lw_all := lw_g (lw_at lw_m33 18 rfl) rfl
theorem q8128 : (Jvm.Cond.stringRef "WasteHouseModel" (297 : Nat) "undo") ∈ lw_tbl := lw_at lw_m33 56 rfl
theorem q8129 : (Jvm.Cond.methodLink "WasteHouseModel" (299 : Nat) ({ cls := "WasteHouseModel", name := "undo", desc := "()J" } : Jvm.MethodName)) ∈ lw_all := lw_g (lw_at lw_m33 57 rfl) rfl
theorem q8130 : (Jvm.Cond.privateMethod ({ cls := "WasteHouseModel", name := "undo", desc := "()J" } : Jvm.MethodName)) ∈ lw_tbl := lw_at lw_m33 58 rfl
theorem q8131 : (Jvm.Cond.instanceMethod ({ cls := "WasteHouseModel", name := "undo", desc := "()J" } : Jvm.MethodName)) ∈ lw_all := lw_g (lw_at lw_m33 59 rfl) rfl
theorem q8132 : (Jvm.Cond.code ({ cls := "WasteHouseModel", name := "undo", desc := "()J" } : Jvm.MethodName) prog_56_method_35_code (7 : Nat) (Option.some Jvm.ClassFile.FieldType.long)) ∈ lw_all := lw_g (lw_at lw_m33 60 rfl) rfl
theorem q8133 : (Jvm.Cond.methodLink "WasteHouseModel" (417 : Nat) ({ cls := "WasteHouseModel", name := "isInRing", desc := "(I)Z" } : Jvm.MethodName)) ∈ lw_all := lw_g (lw_at lw_m33 61 rfl) rfl
theorem q8134 : (Jvm.Cond.privateMethod ({ cls := "WasteHouseModel", name := "isInRing", desc := "(I)Z" } : Jvm.MethodName)) ∈ lw_tbl := lw_at lw_m33 62 rfl
theorem q8135 : (Jvm.Cond.instanceMethod ({ cls := "WasteHouseModel", name := "isInRing", desc := "(I)Z" } : Jvm.MethodName)) ∈ lw_all := lw_g (lw_at lw_m33 63 rfl) rfl
theorem q8136 : (Jvm.Cond.code ({ cls := "WasteHouseModel", name := "isInRing", desc := "(I)Z" } : Jvm.MethodName) prog_56_method_34_code (4 : Nat) (Option.some Jvm.ClassFile.FieldType.boolean)) ∈ lw_all := lw_g (lw_at lw_m33 64 rfl) rfl
theorem q8137 : (Jvm.Cond.methodLink "WasteHouseModel" (411 : Nat) ({ cls := "WasteHouseModel$PartGraphsModel", name := "ring", desc := "(I)I" } : Jvm.MethodName)) ∈ lw_all := lw_g (lw_at lw_m33 65 rfl) rfl
theorem q8159 : (Jvm.Cond.methodLink "WasteHouseModel" (429 : Nat) ({ cls := "WasteHouseModel$ApartCostModel", name := "act", desc := "(IIIJ)I" } : Jvm.MethodName)) ∈ lw_all := lw_g (lw_at lw_m33 87 rfl) rfl
theorem q8170 : (Jvm.Cond.methodLink "WasteHouseModel" (433 : Nat) ({ cls := "WasteHouseModel$PartGraphsModel", name := "before", desc := "(II)I" } : Jvm.MethodName)) ∈ lw_all := lw_g (lw_at lw_m33 98 rfl) rfl
theorem q8178 : (Jvm.Cond.methodLink "WasteHouseModel" (436 : Nat) ({ cls := "WasteHouseModel$ApartCostModel", name := "before", desc := "(II)Z" } : Jvm.MethodName)) ∈ lw_all := lw_g (lw_at lw_m33 106 rfl) rfl
theorem q8190 : (Jvm.Cond.stringRef "WasteHouseModel" (301 : Nat) "refund") ∈ lw_tbl := lw_at lw_m33 118 rfl
theorem q8191 : (Jvm.Cond.stringRef "WasteHouseModel" (303 : Nat) "iliil") ∈ lw_tbl := lw_at lw_m33 119 rfl
theorem q8192 : (Jvm.Cond.methodLink "WasteHouseModel" (305 : Nat) ({ cls := "WasteHouseModel", name := "refund", desc := "(IJIIJ)J" } : Jvm.MethodName)) ∈ lw_all := lw_g (lw_at lw_m33 120 rfl) rfl
theorem q8193 : (Jvm.Cond.privateMethod ({ cls := "WasteHouseModel", name := "refund", desc := "(IJIIJ)J" } : Jvm.MethodName)) ∈ lw_tbl := lw_at lw_m33 121 rfl
theorem q8194 : (Jvm.Cond.instanceMethod ({ cls := "WasteHouseModel", name := "refund", desc := "(IJIIJ)J" } : Jvm.MethodName)) ∈ lw_all := lw_g (lw_at lw_m33 122 rfl) rfl
theorem q8195 : (Jvm.Cond.code ({ cls := "WasteHouseModel", name := "refund", desc := "(IJIIJ)J" } : Jvm.MethodName) prog_56_method_36_code (9 : Nat) (Option.some Jvm.ClassFile.FieldType.long)) ∈ lw_all := lw_g (lw_at lw_m33 123 rfl) rfl
theorem q8196 : (Jvm.Cond.methodLink "WasteHouseModel" (439 : Nat) ({ cls := "WasteHouseModel$DepositCodesModel", name := "give", desc := "(IJIIJ)I" } : Jvm.MethodName)) ∈ lw_all := lw_g (lw_at lw_m33 124 rfl) rfl
theorem q8227 : (Jvm.Cond.constantLong "WasteHouseModel" (443 : Nat) (25 : Int64)) ∈ lw_all := lw_g (lw_at lw_m33 155 rfl) rfl
theorem q8228 : (Jvm.Cond.stringRef "WasteHouseModel" (308 : Nat) "fee") ∈ lw_tbl := lw_at lw_m33 156 rfl
theorem q8229 : (Jvm.Cond.methodLink "WasteHouseModel" (310 : Nat) ({ cls := "WasteHouseModel", name := "fee", desc := "(IJ)J" } : Jvm.MethodName)) ∈ lw_all := lw_g (lw_at lw_m33 157 rfl) rfl
theorem q8230 : (Jvm.Cond.privateMethod ({ cls := "WasteHouseModel", name := "fee", desc := "(IJ)J" } : Jvm.MethodName)) ∈ lw_tbl := lw_at lw_m33 158 rfl
theorem q8231 : (Jvm.Cond.instanceMethod ({ cls := "WasteHouseModel", name := "fee", desc := "(IJ)J" } : Jvm.MethodName)) ∈ lw_all := lw_g (lw_at lw_m33 159 rfl) rfl
theorem q8232 : (Jvm.Cond.code ({ cls := "WasteHouseModel", name := "fee", desc := "(IJ)J" } : Jvm.MethodName) prog_56_method_37_code (9 : Nat) (Option.some Jvm.ClassFile.FieldType.long)) ∈ lw_all := lw_g (lw_at lw_m33 160 rfl) rfl
theorem q8233 : (Jvm.Cond.constantLong "WasteHouseModel" (445 : Nat) (1000000 : Int64)) ∈ lw_all := lw_g (lw_at lw_m33 161 rfl) rfl
theorem q8234 : (Jvm.Cond.methodLink "WasteHouseModel" (447 : Nat) ({ cls := "WasteHouseModel$TicketChainModel", name := "share", desc := "(II)J" } : Jvm.MethodName)) ∈ lw_all := lw_g (lw_at lw_m33 162 rfl) rfl
theorem q8251 : (Jvm.Cond.stringRef "WasteHouseModel" (312 : Nat) "account") ∈ lw_tbl := lw_at lw_m33 179 rfl
theorem q8252 : (Jvm.Cond.methodLink "WasteHouseModel" (314 : Nat) ({ cls := "WasteHouseModel", name := "account", desc := "(I)J" } : Jvm.MethodName)) ∈ lw_all := lw_g (lw_at lw_m33 180 rfl) rfl
theorem q8253 : (Jvm.Cond.instanceMethod ({ cls := "WasteHouseModel", name := "account", desc := "(I)J" } : Jvm.MethodName)) ∈ lw_all := lw_g (lw_at lw_m33 181 rfl) rfl
theorem q8254 : (Jvm.Cond.selects "WasteHouseModel" ({ cls := "WasteHouseModel", name := "account", desc := "(I)J" } : Jvm.MethodName) ({ cls := "WasteHouseModel", name := "account", desc := "(I)J" } : Jvm.MethodName)) ∈ lw_all := lw_g (lw_at lw_m33 182 rfl) rfl
theorem q8255 : (Jvm.Cond.code ({ cls := "WasteHouseModel", name := "account", desc := "(I)J" } : Jvm.MethodName) prog_56_method_21_code (2 : Nat) (Option.some Jvm.ClassFile.FieldType.long)) ∈ lw_all := lw_g (lw_at lw_m33 183 rfl) rfl
theorem q8256 : (Jvm.Cond.stringRef "WasteHouseModel" (316 : Nat) "entries") ∈ lw_tbl := lw_at lw_m33 184 rfl
theorem q8257 : (Jvm.Cond.stringRef "WasteHouseModel" (317 : Nat) "entry") ∈ lw_tbl := lw_at lw_m33 185 rfl
theorem q8258 : (Jvm.Cond.methodLink "WasteHouseModel" (319 : Nat) ({ cls := "WasteHouseModel", name := "entry", desc := "(II)J" } : Jvm.MethodName)) ∈ lw_all := lw_g (lw_at lw_m33 186 rfl) rfl
theorem q8259 : (Jvm.Cond.privateMethod ({ cls := "WasteHouseModel", name := "entry", desc := "(II)J" } : Jvm.MethodName)) ∈ lw_tbl := lw_at lw_m33 187 rfl
theorem q8260 : (Jvm.Cond.instanceMethod ({ cls := "WasteHouseModel", name := "entry", desc := "(II)J" } : Jvm.MethodName)) ∈ lw_all := lw_g (lw_at lw_m33 188 rfl) rfl
theorem q8261 : (Jvm.Cond.code ({ cls := "WasteHouseModel", name := "entry", desc := "(II)J" } : Jvm.MethodName) prog_56_method_28_code (3 : Nat) (Option.some Jvm.ClassFile.FieldType.long)) ∈ lw_all := lw_g (lw_at lw_m33 189 rfl) rfl
theorem q8262 : (Jvm.Cond.stringRef "WasteHouseModel" (321 : Nat) "brought") ∈ lw_tbl := lw_at lw_m33 190 rfl
theorem q8263 : (Jvm.Cond.constantLong "WasteHouseModel" (322 : Nat) (3 : Int64)) ∈ lw_all := lw_g (lw_at lw_m33 191 rfl) rfl
theorem q8264 : (Jvm.Cond.stringRef "WasteHouseModel" (324 : Nat) "sound") ∈ lw_tbl := lw_at lw_m33 192 rfl
theorem q8265 : (Jvm.Cond.methodLink "WasteHouseModel" (326 : Nat) ({ cls := "WasteHouseModel", name := "sound", desc := "()Z" } : Jvm.MethodName)) ∈ lw_all := lw_g (lw_at lw_m33 193 rfl) rfl
theorem q8266 : (Jvm.Cond.instanceMethod ({ cls := "WasteHouseModel", name := "sound", desc := "()Z" } : Jvm.MethodName)) ∈ lw_all := lw_g (lw_at lw_m33 194 rfl) rfl
theorem q8267 : (Jvm.Cond.selects "WasteHouseModel" ({ cls := "WasteHouseModel", name := "sound", desc := "()Z" } : Jvm.MethodName) ({ cls := "WasteHouseModel", name := "sound", desc := "()Z" } : Jvm.MethodName)) ∈ lw_all := lw_g (lw_at lw_m33 195 rfl) rfl
theorem q8268 : (Jvm.Cond.code ({ cls := "WasteHouseModel", name := "sound", desc := "()Z" } : Jvm.MethodName) prog_56_method_22_code (4 : Nat) (Option.some Jvm.ClassFile.FieldType.boolean)) ∈ lw_all := lw_g (lw_at lw_m33 196 rfl) rfl
theorem q8269 : (Jvm.Cond.methodLink "WasteHouseModel" (236 : Nat) ({ cls := "WasteHouseModel$TicketChainModel", name := "check", desc := "(I)I" } : Jvm.MethodName)) ∈ lw_all := lw_g (lw_at lw_m33 197 rfl) rfl
theorem q8273 : (Jvm.Cond.methodLink "WasteHouseModel" (240 : Nat) ({ cls := "WasteHouseModel$BarredStoresModel", name := "kept", desc := "()Z" } : Jvm.MethodName)) ∈ lw_all := lw_g (lw_at lw_m33 201 rfl) rfl
theorem q8277 : (Jvm.Cond.methodLink "WasteHouseModel" (328 : Nat) ({ cls := "WasteHouseModel", name := "flag", desc := "(Z)J" } : Jvm.MethodName)) ∈ lw_all := lw_g (lw_at lw_m33 205 rfl) rfl
theorem q8278 : (Jvm.Cond.static ({ cls := "WasteHouseModel", name := "flag", desc := "(Z)J" } : Jvm.MethodName)) ∈ lw_all := lw_g (lw_at lw_m33 206 rfl) rfl
theorem q8279 : (Jvm.Cond.code ({ cls := "WasteHouseModel", name := "flag", desc := "(Z)J" } : Jvm.MethodName) prog_56_method_10_code (1 : Nat) (Option.some Jvm.ClassFile.FieldType.long)) ∈ lw_all := lw_g (lw_at lw_m33 207 rfl) rfl
theorem q8280 : (Jvm.Cond.methodLink "WasteHouseModel" (332 : Nat) ({ cls := "WasteHouseModel", name := "none", desc := "()J" } : Jvm.MethodName)) ∈ lw_all := lw_g (lw_at lw_m33 208 rfl) rfl
theorem q8281 : (Jvm.Cond.privateMethod ({ cls := "WasteHouseModel", name := "none", desc := "()J" } : Jvm.MethodName)) ∈ lw_tbl := lw_at lw_m33 209 rfl
theorem q8282 : (Jvm.Cond.instanceMethod ({ cls := "WasteHouseModel", name := "none", desc := "()J" } : Jvm.MethodName)) ∈ lw_all := lw_g (lw_at lw_m33 210 rfl) rfl
theorem q8283 : (Jvm.Cond.code ({ cls := "WasteHouseModel", name := "none", desc := "()J" } : Jvm.MethodName) prog_56_method_11_code (1 : Nat) (Option.some Jvm.ClassFile.FieldType.long)) ∈ lw_all := lw_g (lw_at lw_m33 211 rfl) rfl
theorem q8284 : (Jvm.Cond.stringRef "WasteHouseModel" (190 : Nat) "tickets") ∈ lw_tbl := lw_at lw_m33 212 rfl
theorem q8285 : (Jvm.Cond.methodLink "WasteHouseModel" (191 : Nat) ({ cls := "WasteHouseModel", name := "tickets", desc := "()J" } : Jvm.MethodName)) ∈ lw_all := lw_g (lw_at lw_m33 213 rfl) rfl
theorem q8286 : (Jvm.Cond.privateMethod ({ cls := "WasteHouseModel", name := "tickets", desc := "()J" } : Jvm.MethodName)) ∈ lw_tbl := lw_at lw_m33 214 rfl
theorem q8287 : (Jvm.Cond.instanceMethod ({ cls := "WasteHouseModel", name := "tickets", desc := "()J" } : Jvm.MethodName)) ∈ lw_all := lw_g (lw_at lw_m33 215 rfl) rfl
theorem q8288 : (Jvm.Cond.code ({ cls := "WasteHouseModel", name := "tickets", desc := "()J" } : Jvm.MethodName) prog_56_method_38_code (1 : Nat) (Option.some Jvm.ClassFile.FieldType.long)) ∈ lw_all := lw_g (lw_at lw_m33 216 rfl) rfl
theorem q8289 : (Jvm.Cond.stringRef "WasteHouseModel" (449 : Nat) "follows") ∈ lw_tbl := lw_at lw_m33 217 rfl
theorem q8290 : (Jvm.Cond.stringRef "WasteHouseModel" (451 : Nat) "iil") ∈ lw_tbl := lw_at lw_m33 218 rfl
theorem q8291 : (Jvm.Cond.methodLink "WasteHouseModel" (453 : Nat) ({ cls := "WasteHouseModel$TicketChainModel", name := "follows", desc := "(IIJ)Z" } : Jvm.MethodName)) ∈ lw_all := lw_g (lw_at lw_m33 219 rfl) rfl
theorem q8296 : (Jvm.Cond.stringRef "WasteHouseModel" (455 : Nat) "ticket") ∈ lw_tbl := lw_at lw_m33 224 rfl
theorem q8297 : (Jvm.Cond.stringRef "WasteHouseModel" (456 : Nat) "iillli") ∈ lw_tbl := lw_at lw_m33 225 rfl
theorem q8298 : (Jvm.Cond.stringRef "WasteHouseModel" (458 : Nat) "correct") ∈ lw_tbl := lw_at lw_m33 226 rfl
theorem q8299 : (Jvm.Cond.stringRef "WasteHouseModel" (460 : Nat) "iili") ∈ lw_tbl := lw_at lw_m33 227 rfl
theorem q8300 : (Jvm.Cond.methodLink "WasteHouseModel" (462 : Nat) ({ cls := "WasteHouseModel$TicketChainModel", name := "correct", desc := "(IIJI)I" } : Jvm.MethodName)) ∈ lw_all := lw_g (lw_at lw_m33 228 rfl) rfl
theorem q8304 : (Jvm.Cond.stringRef "WasteHouseModel" (465 : Nat) "voids") ∈ lw_tbl := lw_at lw_m33 232 rfl
theorem q8305 : (Jvm.Cond.methodLink "WasteHouseModel" (467 : Nat) ({ cls := "WasteHouseModel$TicketChainModel", name := "voids", desc := "(II)I" } : Jvm.MethodName)) ∈ lw_all := lw_g (lw_at lw_m33 233 rfl) rfl
theorem q8309 : (Jvm.Cond.stringRef "WasteHouseModel" (469 : Nat) "at") ∈ lw_tbl := lw_at lw_m33 237 rfl
theorem q8310 : (Jvm.Cond.methodLink "WasteHouseModel" (471 : Nat) ({ cls := "WasteHouseModel$TicketChainModel", name := "at", desc := "(II)J" } : Jvm.MethodName)) ∈ lw_all := lw_g (lw_at lw_m33 238 rfl) rfl
theorem q8311 : (Jvm.Cond.stringRef "WasteHouseModel" (473 : Nat) "number") ∈ lw_tbl := lw_at lw_m33 239 rfl
theorem q8312 : (Jvm.Cond.methodLink "WasteHouseModel" (475 : Nat) ({ cls := "WasteHouseModel$TicketChainModel", name := "number", desc := "(I)I" } : Jvm.MethodName)) ∈ lw_all := lw_g (lw_at lw_m34 0 rfl) rfl
theorem q8316 : (Jvm.Cond.stringRef "WasteHouseModel" (477 : Nat) "gap") ∈ lw_tbl := lw_at lw_m34 4 rfl
theorem q8317 : (Jvm.Cond.methodLink "WasteHouseModel" (479 : Nat) ({ cls := "WasteHouseModel$TicketChainModel", name := "gap", desc := "(I)I" } : Jvm.MethodName)) ∈ lw_all := lw_g (lw_at lw_m34 5 rfl) rfl
theorem q8321 : (Jvm.Cond.stringRef "WasteHouseModel" (481 : Nat) "rows") ∈ lw_tbl := lw_at lw_m34 9 rfl
theorem q8322 : (Jvm.Cond.methodLink "WasteHouseModel" (483 : Nat) ({ cls := "WasteHouseModel$TicketChainModel", name := "rows", desc := "()I" } : Jvm.MethodName)) ∈ lw_all := lw_g (lw_at lw_m34 10 rfl) rfl
theorem q8326 : (Jvm.Cond.stringRef "WasteHouseModel" (485 : Nat) "made") ∈ lw_tbl := lw_at lw_m34 14 rfl
theorem q8327 : (Jvm.Cond.methodLink "WasteHouseModel" (487 : Nat) ({ cls := "WasteHouseModel$TicketChainModel", name := "made", desc := "()I" } : Jvm.MethodName)) ∈ lw_all := lw_g (lw_at lw_m34 15 rfl) rfl
theorem q8331 : (Jvm.Cond.stringRef "WasteHouseModel" (489 : Nat) "split") ∈ lw_tbl := lw_at lw_m34 19 rfl
theorem q8332 : (Jvm.Cond.methodLink "WasteHouseModel" (490 : Nat) ({ cls := "WasteHouseModel$TicketChainModel", name := "split", desc := "(IIJ)Z" } : Jvm.MethodName)) ∈ lw_all := lw_g (lw_at lw_m34 20 rfl) rfl
theorem q8337 : (Jvm.Cond.stringRef "WasteHouseModel" (492 : Nat) "share") ∈ lw_tbl := lw_at lw_m34 25 rfl
theorem q8338 : (Jvm.Cond.stringRef "WasteHouseModel" (493 : Nat) "print") ∈ lw_tbl := lw_at lw_m34 26 rfl
theorem q8339 : (Jvm.Cond.methodLink "WasteHouseModel" (494 : Nat) ({ cls := "WasteHouseModel$TicketChainModel", name := "print", desc := "(II)I" } : Jvm.MethodName)) ∈ lw_all := lw_g (lw_at lw_m34 27 rfl) rfl
theorem q8353 : (Jvm.Cond.stringRef "WasteHouseModel" (496 : Nat) "poke") ∈ lw_tbl := lw_at lw_m34 41 rfl
theorem q8354 : (Jvm.Cond.stringRef "WasteHouseModel" (498 : Nat) "iii") ∈ lw_tbl := lw_at lw_m34 42 rfl
theorem q8355 : (Jvm.Cond.methodLink "WasteHouseModel" (500 : Nat) ({ cls := "WasteHouseModel$TicketChainModel", name := "poke", desc := "(III)Z" } : Jvm.MethodName)) ∈ lw_all := lw_g (lw_at lw_m34 43 rfl) rfl
theorem q8364 : (Jvm.Cond.stringRef "WasteHouseModel" (503 : Nat) "byte") ∈ lw_tbl := lw_at lw_m34 52 rfl
theorem q8365 : (Jvm.Cond.methodLink "WasteHouseModel" (505 : Nat) ({ cls := "WasteHouseModel$TicketChainModel", name := "byteAt", desc := "(II)I" } : Jvm.MethodName)) ∈ lw_all := lw_g (lw_at lw_m34 53 rfl) rfl
theorem q8369 : (Jvm.Cond.stringRef "WasteHouseModel" (508 : Nat) "digest") ∈ lw_tbl := lw_at lw_m34 57 rfl
theorem q8370 : (Jvm.Cond.methodLink "WasteHouseModel" (510 : Nat) ({ cls := "WasteHouseModel$TicketChainModel", name := "digest", desc := "(II)I" } : Jvm.MethodName)) ∈ lw_all := lw_g (lw_at lw_m34 58 rfl) rfl
theorem q8375 : (Jvm.Cond.stringRef "WasteHouseModel" (512 : Nat) "check") ∈ lw_tbl := lw_at lw_m34 63 rfl
theorem q8376 : (Jvm.Cond.stringRef "WasteHouseModel" (513 : Nat) "root") ∈ lw_tbl := lw_at lw_m34 64 rfl
theorem q8377 : (Jvm.Cond.methodLink "WasteHouseModel" (515 : Nat) ({ cls := "WasteHouseModel$TicketChainModel", name := "root", desc := "(II)I" } : Jvm.MethodName)) ∈ lw_all := lw_g (lw_at lw_m34 65 rfl) rfl
theorem q8385 : (Jvm.Cond.methodLink "WasteHouseModel" (193 : Nat) ({ cls := "WasteHouseModel$TicketChainModel", name := "thrown", desc := "()I" } : Jvm.MethodName)) ∈ lw_all := lw_g (lw_at lw_m34 73 rfl) rfl
theorem q8389 : (Jvm.Cond.stringRef "WasteHouseModel" (196 : Nat) "line") ∈ lw_tbl := lw_at lw_m34 77 rfl
theorem q8390 : (Jvm.Cond.methodLink "WasteHouseModel" (197 : Nat) ({ cls := "WasteHouseModel", name := "line", desc := "()J" } : Jvm.MethodName)) ∈ lw_all := lw_g (lw_at lw_m34 78 rfl) rfl
theorem q8391 : (Jvm.Cond.privateMethod ({ cls := "WasteHouseModel", name := "line", desc := "()J" } : Jvm.MethodName)) ∈ lw_tbl := lw_at lw_m34 79 rfl
theorem q8392 : (Jvm.Cond.instanceMethod ({ cls := "WasteHouseModel", name := "line", desc := "()J" } : Jvm.MethodName)) ∈ lw_all := lw_g (lw_at lw_m34 80 rfl) rfl
theorem q8393 : (Jvm.Cond.code ({ cls := "WasteHouseModel", name := "line", desc := "()J" } : Jvm.MethodName) prog_56_method_39_code (1 : Nat) (Option.some Jvm.ClassFile.FieldType.long)) ∈ lw_all := lw_g (lw_at lw_m34 81 rfl) rfl
theorem q8394 : (Jvm.Cond.stringRef "WasteHouseModel" (517 : Nat) "machine") ∈ lw_tbl := lw_at lw_m34 82 rfl
theorem q8395 : (Jvm.Cond.methodLink "WasteHouseModel" (519 : Nat) ({ cls := "WasteHouseModel$ShareSolveModel", name := "machine", desc := "(I)I" } : Jvm.MethodName)) ∈ lw_all := lw_g (lw_at lw_m34 83 rfl) rfl
theorem q8399 : (Jvm.Cond.stringRef "WasteHouseModel" (521 : Nat) "port") ∈ lw_tbl := lw_at lw_m34 87 rfl
theorem q8400 : (Jvm.Cond.methodLink "WasteHouseModel" (523 : Nat) ({ cls := "WasteHouseModel$ShareSolveModel", name := "port", desc := "()I" } : Jvm.MethodName)) ∈ lw_all := lw_g (lw_at lw_m34 88 rfl) rfl
theorem q8404 : (Jvm.Cond.stringRef "WasteHouseModel" (525 : Nat) "join") ∈ lw_tbl := lw_at lw_m34 92 rfl
theorem q8405 : (Jvm.Cond.methodLink "WasteHouseModel" (527 : Nat) ({ cls := "WasteHouseModel$ShareSolveModel", name := "joinOut", desc := "(III)Z" } : Jvm.MethodName)) ∈ lw_all := lw_g (lw_at lw_m34 93 rfl) rfl
theorem q8413 : (Jvm.Cond.stringRef "WasteHouseModel" (530 : Nat) "iiill") ∈ lw_tbl := lw_at lw_m34 101 rfl
theorem q8414 : (Jvm.Cond.methodLink "WasteHouseModel" (532 : Nat) ({ cls := "WasteHouseModel$ShareSolveModel", name := "share", desc := "(IIIJJ)Z" } : Jvm.MethodName)) ∈ lw_all := lw_g (lw_at lw_m34 102 rfl) rfl
theorem q8430 : (Jvm.Cond.stringRef "WasteHouseModel" (535 : Nat) "crush") ∈ lw_tbl := lw_at lw_m34 118 rfl
theorem q8431 : (Jvm.Cond.methodLink "WasteHouseModel" (537 : Nat) ({ cls := "WasteHouseModel$ShareSolveModel", name := "crush", desc := "(IIIJJ)Z" } : Jvm.MethodName)) ∈ lw_all := lw_g (lw_at lw_m34 119 rfl) rfl
theorem q8435 : (Jvm.Cond.stringRef "WasteHouseModel" (539 : Nat) "feed") ∈ lw_tbl := lw_at lw_m34 123 rfl
theorem q8436 : (Jvm.Cond.stringRef "WasteHouseModel" (540 : Nat) "solve") ∈ lw_tbl := lw_at lw_m34 124 rfl
theorem q8437 : (Jvm.Cond.stringRef "WasteHouseModel" (541 : Nat) "out") ∈ lw_tbl := lw_at lw_m34 125 rfl
theorem q8438 : (Jvm.Cond.stringRef "WasteHouseModel" (542 : Nat) "load") ∈ lw_tbl := lw_at lw_m34 126 rfl
theorem q8439 : (Jvm.Cond.methodLink "WasteHouseModel" (543 : Nat) ({ cls := "WasteHouseModel$ShareSolveModel", name := "load", desc := "(II)J" } : Jvm.MethodName)) ∈ lw_all := lw_g (lw_at lw_m34 127 rfl) rfl
theorem q8447 : (Jvm.Cond.stringRef "WasteHouseModel" (545 : Nat) "span") ∈ lw_tbl := lw_at lw_m34 135 rfl
theorem q8448 : (Jvm.Cond.stringRef "WasteHouseModel" (547 : Nat) "ill") ∈ lw_tbl := lw_at lw_m34 136 rfl
theorem q8449 : (Jvm.Cond.methodLink "WasteHouseModel" (549 : Nat) ({ cls := "WasteHouseModel$ShareSolveModel", name := "span", desc := "(IJJ)Z" } : Jvm.MethodName)) ∈ lw_all := lw_g (lw_at lw_m34 137 rfl) rfl
theorem q8453 : (Jvm.Cond.stringRef "WasteHouseModel" (551 : Nat) "over") ∈ lw_tbl := lw_at lw_m34 141 rfl
theorem q8454 : (Jvm.Cond.methodLink "WasteHouseModel" (553 : Nat) ({ cls := "WasteHouseModel$ShareSolveModel", name := "over", desc := "(I)I" } : Jvm.MethodName)) ∈ lw_all := lw_g (lw_at lw_m34 142 rfl) rfl
theorem q8462 : (Jvm.Cond.stringRef "WasteHouseModel" (555 : Nat) "slope") ∈ lw_tbl := lw_at lw_m34 150 rfl
theorem q8463 : (Jvm.Cond.stringRef "WasteHouseModel" (557 : Nat) "iiiii") ∈ lw_tbl := lw_at lw_m34 151 rfl
theorem q8464 : (Jvm.Cond.methodLink "WasteHouseModel" (559 : Nat) ({ cls := "WasteHouseModel$ShareSolveModel", name := "slope", desc := "(IIIII)J" } : Jvm.MethodName)) ∈ lw_all := lw_g (lw_at lw_m34 152 rfl) rfl
theorem q8484 : (Jvm.Cond.stringRef "WasteHouseModel" (562 : Nat) "purity") ∈ lw_tbl := lw_at lw_m34 172 rfl
theorem q8485 : (Jvm.Cond.methodLink "WasteHouseModel" (564 : Nat) ({ cls := "WasteHouseModel$ShareSolveModel", name := "purity", desc := "(III)J" } : Jvm.MethodName)) ∈ lw_all := lw_g (lw_at lw_m34 173 rfl) rfl
theorem q8489 : (Jvm.Cond.stringRef "WasteHouseModel" (566 : Nat) "change") ∈ lw_tbl := lw_at lw_m34 177 rfl
theorem q8490 : (Jvm.Cond.methodLink "WasteHouseModel" (568 : Nat) ({ cls := "WasteHouseModel$ShareSolveModel", name := "change", desc := "(IIIJJ)Z" } : Jvm.MethodName)) ∈ lw_all := lw_g (lw_at lw_m34 178 rfl) rfl
theorem q8496 : (Jvm.Cond.stringRef "WasteHouseModel" (570 : Nat) "find") ∈ lw_tbl := lw_at lw_m34 184 rfl
theorem q8497 : (Jvm.Cond.methodLink "WasteHouseModel" (572 : Nat) ({ cls := "WasteHouseModel$ShareSolveModel", name := "find", desc := "(IIJ)I" } : Jvm.MethodName)) ∈ lw_all := lw_g (lw_at lw_m34 185 rfl) rfl
theorem q8505 : (Jvm.Cond.stringRef "WasteHouseModel" (575 : Nat) "kept") ∈ lw_tbl := lw_at lw_m34 193 rfl
theorem q8506 : (Jvm.Cond.methodLink "WasteHouseModel" (576 : Nat) ({ cls := "WasteHouseModel$ShareSolveModel", name := "kept", desc := "()Z" } : Jvm.MethodName)) ∈ lw_all := lw_g (lw_at lw_m34 194 rfl) rfl
theorem q8510 : (Jvm.Cond.stringRef "WasteHouseModel" (199 : Nat) "hazards") ∈ lw_tbl := lw_at lw_m34 198 rfl
theorem q8511 : (Jvm.Cond.methodLink "WasteHouseModel" (200 : Nat) ({ cls := "WasteHouseModel", name := "hazards", desc := "()J" } : Jvm.MethodName)) ∈ lw_all := lw_g (lw_at lw_m34 199 rfl) rfl
theorem q8512 : (Jvm.Cond.privateMethod ({ cls := "WasteHouseModel", name := "hazards", desc := "()J" } : Jvm.MethodName)) ∈ lw_tbl := lw_at lw_m34 200 rfl
theorem q8513 : (Jvm.Cond.instanceMethod ({ cls := "WasteHouseModel", name := "hazards", desc := "()J" } : Jvm.MethodName)) ∈ lw_all := lw_g (lw_at lw_m34 201 rfl) rfl
theorem q8514 : (Jvm.Cond.code ({ cls := "WasteHouseModel", name := "hazards", desc := "()J" } : Jvm.MethodName) prog_56_method_40_code (1 : Nat) (Option.some Jvm.ClassFile.FieldType.long)) ∈ lw_all := lw_g (lw_at lw_m34 202 rfl) rfl
theorem q8515 : (Jvm.Cond.stringRef "WasteHouseModel" (577 : Nat) "read") ∈ lw_tbl := lw_at lw_m34 203 rfl
theorem q8516 : (Jvm.Cond.methodLink "WasteHouseModel" (578 : Nat) ({ cls := "WasteHouseModel", name := "hazardsRead", desc := "()J" } : Jvm.MethodName)) ∈ lw_all := lw_g (lw_at lw_m34 204 rfl) rfl
theorem q8517 : (Jvm.Cond.privateMethod ({ cls := "WasteHouseModel", name := "hazardsRead", desc := "()J" } : Jvm.MethodName)) ∈ lw_tbl := lw_at lw_m34 205 rfl
theorem q8518 : (Jvm.Cond.instanceMethod ({ cls := "WasteHouseModel", name := "hazardsRead", desc := "()J" } : Jvm.MethodName)) ∈ lw_all := lw_g (lw_at lw_m34 206 rfl) rfl
theorem q8519 : (Jvm.Cond.code ({ cls := "WasteHouseModel", name := "hazardsRead", desc := "()J" } : Jvm.MethodName) prog_56_method_24_code (3 : Nat) (Option.some Jvm.ClassFile.FieldType.long)) ∈ lw_all := lw_g (lw_at lw_m34 207 rfl) rfl
theorem q8520 : (Jvm.Cond.methodLink "WasteHouseModel" (244 : Nat) ({ cls := "WasteHouseModel", name := "textBegin", desc := "()I" } : Jvm.MethodName)) ∈ lw_all := lw_g (lw_at lw_m34 208 rfl) rfl
theorem q8521 : (Jvm.Cond.privateMethod ({ cls := "WasteHouseModel", name := "textBegin", desc := "()I" } : Jvm.MethodName)) ∈ lw_tbl := lw_at lw_m34 209 rfl
theorem q8522 : (Jvm.Cond.instanceMethod ({ cls := "WasteHouseModel", name := "textBegin", desc := "()I" } : Jvm.MethodName)) ∈ lw_all := lw_g (lw_at lw_m34 210 rfl) rfl
theorem q8523 : (Jvm.Cond.code ({ cls := "WasteHouseModel", name := "textBegin", desc := "()I" } : Jvm.MethodName) prog_56_method_23_code (1 : Nat) (Option.some Jvm.ClassFile.FieldType.int)) ∈ lw_all := lw_g (lw_at lw_m34 211 rfl) rfl
theorem q8524 : (Jvm.Cond.methodLink "WasteHouseModel" (247 : Nat) ({ cls := "WasteHouseModel$HazardRulesModel", name := "unit", desc := "(I)Z" } : Jvm.MethodName)) ∈ lw_all := lw_g (lw_at lw_m34 212 rfl) rfl
theorem q8528 : (Jvm.Cond.methodLink "WasteHouseModel" (251 : Nat) ({ cls := "WasteHouseModel$HazardRulesModel", name := "read", desc := "()I" } : Jvm.MethodName)) ∈ lw_all := lw_g (lw_at lw_m34 216 rfl) rfl
theorem q8579 : (Jvm.Cond.stringRef "WasteHouseModel" (581 : Nat) "edition") ∈ lw_tbl := lw_at lw_m35 27 rfl
theorem q8580 : (Jvm.Cond.stringRef "WasteHouseModel" (583 : Nat) "l") ∈ lw_tbl := lw_at lw_m35 28 rfl
theorem q8581 : (Jvm.Cond.methodLink "WasteHouseModel" (585 : Nat) ({ cls := "WasteHouseModel$HazardRulesModel", name := "edition", desc := "(J)I" } : Jvm.MethodName)) ∈ lw_all := lw_g (lw_at lw_m35 29 rfl) rfl
theorem q8582 : (Jvm.Cond.stringRef "WasteHouseModel" (587 : Nat) "part") ∈ lw_tbl := lw_at lw_m35 30 rfl
theorem q8583 : (Jvm.Cond.stringRef "WasteHouseModel" (588 : Nat) "test") ∈ lw_tbl := lw_at lw_m35 31 rfl
theorem q8584 : (Jvm.Cond.methodLink "WasteHouseModel" (590 : Nat) ({ cls := "WasteHouseModel$HazardRulesModel", name := "test", desc := "(II)Z" } : Jvm.MethodName)) ∈ lw_all := lw_g (lw_at lw_m35 32 rfl) rfl
theorem q8588 : (Jvm.Cond.stringRef "WasteHouseModel" (592 : Nat) "clear") ∈ lw_tbl := lw_at lw_m35 36 rfl
theorem q8589 : (Jvm.Cond.methodLink "WasteHouseModel" (594 : Nat) ({ cls := "WasteHouseModel$HazardRulesModel", name := "clearParts", desc := "()V" } : Jvm.MethodName)) ∈ lw_all := lw_g (lw_at lw_m35 37 rfl) rfl
theorem q8593 : (Jvm.Cond.stringRef "WasteHouseModel" (597 : Nat) "way") ∈ lw_tbl := lw_at lw_m35 41 rfl
theorem q8594 : (Jvm.Cond.stringRef "WasteHouseModel" (599 : Nat) "b") ∈ lw_tbl := lw_at lw_m35 42 rfl
theorem q8595 : (Jvm.Cond.methodLink "WasteHouseModel" (601 : Nat) ({ cls := "WasteHouseModel$HazardRulesModel", name := "way", desc := "(Z)Z" } : Jvm.MethodName)) ∈ lw_all := lw_g (lw_at lw_m35 43 rfl) rfl
theorem q8599 : (Jvm.Cond.stringRef "WasteHouseModel" (604 : Nat) "run") ∈ lw_tbl := lw_at lw_m35 47 rfl
theorem q8600 : (Jvm.Cond.stringRef "WasteHouseModel" (605 : Nat) "walk") ∈ lw_tbl := lw_at lw_m35 48 rfl
theorem q8601 : (Jvm.Cond.methodLink "WasteHouseModel" (607 : Nat) ({ cls := "WasteHouseModel$HazardRulesModel", name := "walk", desc := "(J)I" } : Jvm.MethodName)) ∈ lw_all := lw_g (lw_at lw_m35 49 rfl) rfl
theorem q8606 : (Jvm.Cond.methodLink "WasteHouseModel" (609 : Nat) ({ cls := "WasteHouseModel$HazardRulesModel", name := "cls", desc := "(I)I" } : Jvm.MethodName)) ∈ lw_all := lw_g (lw_at lw_m35 54 rfl) rfl
theorem q8607 : (Jvm.Cond.stringRef "WasteHouseModel" (612 : Nat) "mark") ∈ lw_tbl := lw_at lw_m35 55 rfl
theorem q8608 : (Jvm.Cond.methodLink "WasteHouseModel" (614 : Nat) ({ cls := "WasteHouseModel$HazardRulesModel", name := "mark", desc := "(I)I" } : Jvm.MethodName)) ∈ lw_all := lw_g (lw_at lw_m35 56 rfl) rfl
theorem q8612 : (Jvm.Cond.stringRef "WasteHouseModel" (616 : Nat) "moving") ∈ lw_tbl := lw_at lw_m35 60 rfl
theorem q8613 : (Jvm.Cond.stringRef "WasteHouseModel" (617 : Nat) "open") ∈ lw_tbl := lw_at lw_m35 61 rfl
theorem q8614 : (Jvm.Cond.methodLink "WasteHouseModel" (619 : Nat) ({ cls := "WasteHouseModel$HazardRulesModel", name := "open", desc := "(II)I" } : Jvm.MethodName)) ∈ lw_all := lw_g (lw_at lw_m35 62 rfl) rfl
theorem q8615 : (Jvm.Cond.stringRef "WasteHouseModel" (621 : Nat) "missing") ∈ lw_tbl := lw_at lw_m35 63 rfl
theorem q8616 : (Jvm.Cond.methodLink "WasteHouseModel" (623 : Nat) ({ cls := "WasteHouseModel$HazardRulesModel", name := "missing", desc := "(I)I" } : Jvm.MethodName)) ∈ lw_all := lw_g (lw_at lw_m35 64 rfl) rfl
theorem q8620 : (Jvm.Cond.stringRef "WasteHouseModel" (625 : Nat) "explain") ∈ lw_tbl := lw_at lw_m35 68 rfl
theorem q8621 : (Jvm.Cond.methodLink "WasteHouseModel" (627 : Nat) ({ cls := "WasteHouseModel$HazardRulesModel", name := "explain", desc := "(III)I" } : Jvm.MethodName)) ∈ lw_all := lw_g (lw_at lw_m35 69 rfl) rfl
theorem q8629 : (Jvm.Cond.stringRef "WasteHouseModel" (630 : Nat) "limit") ∈ lw_tbl := lw_at lw_m35 77 rfl
theorem q8630 : (Jvm.Cond.methodLink "WasteHouseModel" (632 : Nat) ({ cls := "WasteHouseModel$HazardRulesModel", name := "limit", desc := "(I)J" } : Jvm.MethodName)) ∈ lw_all := lw_g (lw_at lw_m35 78 rfl) rfl
theorem q8635 : (Jvm.Cond.stringRef "WasteHouseModel" (634 : Nat) "sum") ∈ lw_tbl := lw_at lw_m35 83 rfl
theorem q8636 : (Jvm.Cond.methodLink "WasteHouseModel" (636 : Nat) ({ cls := "WasteHouseModel$HazardRulesModel", name := "sum", desc := "(III)J" } : Jvm.MethodName)) ∈ lw_all := lw_g (lw_at lw_m35 84 rfl) rfl
theorem q8640 : (Jvm.Cond.stringRef "WasteHouseModel" (638 : Nat) "table") ∈ lw_tbl := lw_at lw_m35 88 rfl
theorem q8641 : (Jvm.Cond.methodLink "WasteHouseModel" (640 : Nat) ({ cls := "WasteHouseModel$HazardRulesModel", name := "table", desc := "(II)I" } : Jvm.MethodName)) ∈ lw_all := lw_g (lw_at lw_m35 89 rfl) rfl
theorem q8645 : (Jvm.Cond.stringRef "WasteHouseModel" (642 : Nat) "write") ∈ lw_tbl := lw_at lw_m35 93 rfl
theorem q8646 : (Jvm.Cond.methodLink "WasteHouseModel" (644 : Nat) ({ cls := "WasteHouseModel$HazardRulesModel", name := "write", desc := "(I)I" } : Jvm.MethodName)) ∈ lw_all := lw_g (lw_at lw_m35 94 rfl) rfl
theorem q8650 : (Jvm.Cond.methodLink "WasteHouseModel" (202 : Nat) ({ cls := "WasteHouseModel$HazardRulesModel", name := "thrown", desc := "()I" } : Jvm.MethodName)) ∈ lw_all := lw_g (lw_at lw_m35 98 rfl) rfl
theorem q8654 : (Jvm.Cond.stringRef "WasteHouseModel" (203 : Nat) "rounds") ∈ lw_tbl := lw_at lw_m35 102 rfl
theorem q8655 : (Jvm.Cond.methodLink "WasteHouseModel" (204 : Nat) ({ cls := "WasteHouseModel", name := "rounds", desc := "()J" } : Jvm.MethodName)) ∈ lw_all := lw_g (lw_at lw_m35 103 rfl) rfl
theorem q8656 : (Jvm.Cond.privateMethod ({ cls := "WasteHouseModel", name := "rounds", desc := "()J" } : Jvm.MethodName)) ∈ lw_tbl := lw_at lw_m35 104 rfl
theorem q8657 : (Jvm.Cond.instanceMethod ({ cls := "WasteHouseModel", name := "rounds", desc := "()J" } : Jvm.MethodName)) ∈ lw_all := lw_g (lw_at lw_m35 105 rfl) rfl
theorem q8658 : (Jvm.Cond.code ({ cls := "WasteHouseModel", name := "rounds", desc := "()J" } : Jvm.MethodName) prog_56_method_41_code (1 : Nat) (Option.some Jvm.ClassFile.FieldType.long)) ∈ lw_all := lw_g (lw_at lw_m35 106 rfl) rfl
theorem q8659 : (Jvm.Cond.stringRef "WasteHouseModel" (646 : Nat) "bin") ∈ lw_tbl := lw_at lw_m35 107 rfl
theorem q8660 : (Jvm.Cond.stringRef "WasteHouseModel" (648 : Nat) "li") ∈ lw_tbl := lw_at lw_m35 108 rfl
theorem q8661 : (Jvm.Cond.methodLink "WasteHouseModel" (650 : Nat) ({ cls := "WasteHouseModel$RoundColumnsModel", name := "bin", desc := "(JI)I" } : Jvm.MethodName)) ∈ lw_all := lw_g (lw_at lw_m35 109 rfl) rfl
theorem q8669 : (Jvm.Cond.stringRef "WasteHouseModel" (653 : Nat) "iiil") ∈ lw_tbl := lw_at lw_m35 117 rfl
theorem q8670 : (Jvm.Cond.methodLink "WasteHouseModel" (655 : Nat) ({ cls := "WasteHouseModel$RoundColumnsModel", name := "way", desc := "(IIIJ)Z" } : Jvm.MethodName)) ∈ lw_all := lw_g (lw_at lw_m35 118 rfl) rfl
theorem q8675 : (Jvm.Cond.stringRef "WasteHouseModel" (658 : Nat) "vehicle") ∈ lw_tbl := lw_at lw_m35 123 rfl
theorem q8676 : (Jvm.Cond.stringRef "WasteHouseModel" (660 : Nat) "lii") ∈ lw_tbl := lw_at lw_m35 124 rfl
theorem q8677 : (Jvm.Cond.methodLink "WasteHouseModel" (662 : Nat) ({ cls := "WasteHouseModel$RoundColumnsModel", name := "vehicle", desc := "(JII)Z" } : Jvm.MethodName)) ∈ lw_all := lw_g (lw_at lw_m35 125 rfl) rfl
theorem q8684 : (Jvm.Cond.stringRef "WasteHouseModel" (665 : Nat) "branch") ∈ lw_tbl := lw_at lw_m35 132 rfl
theorem q8685 : (Jvm.Cond.stringRef "WasteHouseModel" (667 : Nat) "iib") ∈ lw_tbl := lw_at lw_m35 133 rfl
theorem q8686 : (Jvm.Cond.methodLink "WasteHouseModel" (669 : Nat) ({ cls := "WasteHouseModel$RoundColumnsModel", name := "branch", desc := "(IIZ)Z" } : Jvm.MethodName)) ∈ lw_all := lw_g (lw_at lw_m35 134 rfl) rfl
theorem q8690 : (Jvm.Cond.methodLink "WasteHouseModel" (672 : Nat) ({ cls := "WasteHouseModel$RoundColumnsModel", name := "clear", desc := "()V" } : Jvm.MethodName)) ∈ lw_all := lw_g (lw_at lw_m35 138 rfl) rfl
theorem q8694 : (Jvm.Cond.methodLink "WasteHouseModel" (674 : Nat) ({ cls := "WasteHouseModel$RoundColumnsModel", name := "run", desc := "(I)I" } : Jvm.MethodName)) ∈ lw_all := lw_g (lw_at lw_m35 142 rfl) rfl
theorem q8778 : (Jvm.Cond.stringRef "WasteHouseModel" (676 : Nat) "steps") ∈ lw_tbl := lw_at lw_m35 226 rfl
theorem q8779 : (Jvm.Cond.methodLink "WasteHouseModel" (678 : Nat) ({ cls := "WasteHouseModel$RoundColumnsModel", name := "steps", desc := "()I" } : Jvm.MethodName)) ∈ lw_all := lw_g (lw_at lw_m35 227 rfl) rfl
theorem q8783 : (Jvm.Cond.stringRef "WasteHouseModel" (680 : Nat) "columns") ∈ lw_tbl := lw_at lw_m35 231 rfl
theorem q8784 : (Jvm.Cond.methodLink "WasteHouseModel" (682 : Nat) ({ cls := "WasteHouseModel$RoundColumnsModel", name := "columns", desc := "()I" } : Jvm.MethodName)) ∈ lw_all := lw_g (lw_at lw_m35 232 rfl) rfl
theorem q8788 : (Jvm.Cond.stringRef "WasteHouseModel" (684 : Nat) "column") ∈ lw_tbl := lw_at lw_m35 236 rfl
theorem q8789 : (Jvm.Cond.methodLink "WasteHouseModel" (686 : Nat) ({ cls := "WasteHouseModel$RoundColumnsModel", name := "column", desc := "(II)I" } : Jvm.MethodName)) ∈ lw_all := lw_g (lw_at lw_m35 237 rfl) rfl
theorem q8794 : (Jvm.Cond.stringRef "WasteHouseModel" (688 : Nat) "bound") ∈ lw_tbl := lw_at lw_m36 2 rfl
theorem q8795 : (Jvm.Cond.methodLink "WasteHouseModel" (690 : Nat) ({ cls := "WasteHouseModel$RoundColumnsModel", name := "bound", desc := "(I)J" } : Jvm.MethodName)) ∈ lw_all := lw_g (lw_at lw_m36 3 rfl) rfl
theorem q8803 : (Jvm.Cond.stringRef "WasteHouseModel" (692 : Nat) "dual") ∈ lw_tbl := lw_at lw_m36 11 rfl
theorem q8804 : (Jvm.Cond.methodLink "WasteHouseModel" (694 : Nat) ({ cls := "WasteHouseModel$RoundColumnsModel", name := "dual", desc := "(II)J" } : Jvm.MethodName)) ∈ lw_all := lw_g (lw_at lw_m36 12 rfl) rfl
theorem q8808 : (Jvm.Cond.stringRef "WasteHouseModel" (696 : Nat) "used") ∈ lw_tbl := lw_at lw_m36 16 rfl
theorem q8809 : (Jvm.Cond.methodLink "WasteHouseModel" (698 : Nat) ({ cls := "WasteHouseModel$RoundColumnsModel", name := "used", desc := "(II)J" } : Jvm.MethodName)) ∈ lw_all := lw_g (lw_at lw_m36 17 rfl) rfl
theorem q8813 : (Jvm.Cond.methodLink "WasteHouseModel" (700 : Nat) ({ cls := "WasteHouseModel$RoundColumnsModel", name := "share", desc := "(II)J" } : Jvm.MethodName)) ∈ lw_all := lw_g (lw_at lw_m36 21 rfl) rfl
theorem q8818 : (Jvm.Cond.stringRef "WasteHouseModel" (701 : Nat) "dropped") ∈ lw_tbl := lw_at lw_m36 26 rfl
theorem q8819 : (Jvm.Cond.methodLink "WasteHouseModel" (703 : Nat) ({ cls := "WasteHouseModel$RoundColumnsModel", name := "dropped", desc := "(I)Z" } : Jvm.MethodName)) ∈ lw_all := lw_g (lw_at lw_m36 27 rfl) rfl
theorem q8823 : (Jvm.Cond.stringRef "WasteHouseModel" (705 : Nat) "cuts") ∈ lw_tbl := lw_at lw_m36 31 rfl
theorem q8824 : (Jvm.Cond.methodLink "WasteHouseModel" (707 : Nat) ({ cls := "WasteHouseModel$RoundColumnsModel", name := "cuts", desc := "()I" } : Jvm.MethodName)) ∈ lw_all := lw_g (lw_at lw_m36 32 rfl) rfl
theorem q8832 : (Jvm.Cond.stringRef "WasteHouseModel" (709 : Nat) "cut") ∈ lw_tbl := lw_at lw_m36 40 rfl
theorem q8833 : (Jvm.Cond.methodLink "WasteHouseModel" (711 : Nat) ({ cls := "WasteHouseModel$RoundColumnsModel", name := "cut", desc := "(II)I" } : Jvm.MethodName)) ∈ lw_all := lw_g (lw_at lw_m36 41 rfl) rfl
theorem q8840 : (Jvm.Cond.methodLink "WasteHouseModel" (713 : Nat) ({ cls := "WasteHouseModel$RoundColumnsModel", name := "check", desc := "()I" } : Jvm.MethodName)) ∈ lw_all := lw_g (lw_at lw_m36 48 rfl) rfl
theorem q8844 : (Jvm.Cond.stringRef "WasteHouseModel" (715 : Nat) "closed") ∈ lw_tbl := lw_at lw_m36 52 rfl
theorem q8845 : (Jvm.Cond.methodLink "WasteHouseModel" (717 : Nat) ({ cls := "WasteHouseModel$RoundColumnsModel", name := "labelsClosed", desc := "()Z" } : Jvm.MethodName)) ∈ lw_all := lw_g (lw_at lw_m36 53 rfl) rfl
theorem q8849 : (Jvm.Cond.methodLink "WasteHouseModel" (206 : Nat) ({ cls := "WasteHouseModel$RoundColumnsModel", name := "thrown", desc := "()I" } : Jvm.MethodName)) ∈ lw_all := lw_g (lw_at lw_m36 57 rfl) rfl
theorem q8853 : (Jvm.Cond.stringRef "WasteHouseModel" (207 : Nat) "store") ∈ lw_tbl := lw_at lw_m36 61 rfl
theorem q8854 : (Jvm.Cond.methodLink "WasteHouseModel" (208 : Nat) ({ cls := "WasteHouseModel", name := "store", desc := "()J" } : Jvm.MethodName)) ∈ lw_all := lw_g (lw_at lw_m36 62 rfl) rfl
theorem q8855 : (Jvm.Cond.privateMethod ({ cls := "WasteHouseModel", name := "store", desc := "()J" } : Jvm.MethodName)) ∈ lw_tbl := lw_at lw_m36 63 rfl
theorem q8856 : (Jvm.Cond.instanceMethod ({ cls := "WasteHouseModel", name := "store", desc := "()J" } : Jvm.MethodName)) ∈ lw_all := lw_g (lw_at lw_m36 64 rfl) rfl
theorem q8857 : (Jvm.Cond.code ({ cls := "WasteHouseModel", name := "store", desc := "()J" } : Jvm.MethodName) prog_56_method_42_code (1 : Nat) (Option.some Jvm.ClassFile.FieldType.long)) ∈ lw_all := lw_g (lw_at lw_m36 65 rfl) rfl
theorem q8858 : (Jvm.Cond.stringRef "WasteHouseModel" (720 : Nat) "bar") ∈ lw_tbl := lw_at lw_m36 66 rfl
theorem q8859 : (Jvm.Cond.methodLink "WasteHouseModel" (722 : Nat) ({ cls := "WasteHouseModel$BarredStoresModel", name := "bar", desc := "(III)Z" } : Jvm.MethodName)) ∈ lw_all := lw_g (lw_at lw_m36 67 rfl) rfl
theorem q8864 : (Jvm.Cond.stringRef "WasteHouseModel" (724 : Nat) "most") ∈ lw_tbl := lw_at lw_m36 72 rfl
theorem q8865 : (Jvm.Cond.methodLink "WasteHouseModel" (726 : Nat) ({ cls := "WasteHouseModel$BarredStoresModel", name := "most", desc := "(IJ)Z" } : Jvm.MethodName)) ∈ lw_all := lw_g (lw_at lw_m36 73 rfl) rfl
theorem q8869 : (Jvm.Cond.stringRef "WasteHouseModel" (729 : Nat) "place") ∈ lw_tbl := lw_at lw_m36 77 rfl
theorem q8870 : (Jvm.Cond.stringRef "WasteHouseModel" (731 : Nat) "lll") ∈ lw_tbl := lw_at lw_m36 78 rfl
theorem q8871 : (Jvm.Cond.methodLink "WasteHouseModel" (733 : Nat) ({ cls := "WasteHouseModel$BarredStoresModel", name := "place", desc := "(JJJ)I" } : Jvm.MethodName)) ∈ lw_all := lw_g (lw_at lw_m36 79 rfl) rfl
theorem q8878 : (Jvm.Cond.stringRef "WasteHouseModel" (736 : Nat) "put") ∈ lw_tbl := lw_at lw_m36 86 rfl
theorem q8879 : (Jvm.Cond.stringRef "WasteHouseModel" (737 : Nat) "of") ∈ lw_tbl := lw_at lw_m36 87 rfl
theorem q8880 : (Jvm.Cond.methodLink "WasteHouseModel" (739 : Nat) ({ cls := "WasteHouseModel$BarredStoresModel", name := "placeOf", desc := "(I)I" } : Jvm.MethodName)) ∈ lw_all := lw_g (lw_at lw_m36 88 rfl) rfl
theorem q8884 : (Jvm.Cond.stringRef "WasteHouseModel" (742 : Nat) "plan") ∈ lw_tbl := lw_at lw_m36 92 rfl
theorem q8885 : (Jvm.Cond.methodLink "WasteHouseModel" (744 : Nat) ({ cls := "WasteHouseModel$BarredStoresModel", name := "plan", desc := "(I)I" } : Jvm.MethodName)) ∈ lw_all := lw_g (lw_at lw_m36 93 rfl) rfl
theorem q8893 : (Jvm.Cond.stringRef "WasteHouseModel" (746 : Nat) "moves") ∈ lw_tbl := lw_at lw_m36 101 rfl
theorem q8894 : (Jvm.Cond.methodLink "WasteHouseModel" (748 : Nat) ({ cls := "WasteHouseModel$BarredStoresModel", name := "moves", desc := "(II)I" } : Jvm.MethodName)) ∈ lw_all := lw_g (lw_at lw_m36 102 rfl) rfl
theorem q8923 : (Jvm.Cond.stringRef "WasteHouseModel" (750 : Nat) "step") ∈ lw_tbl := lw_at lw_m36 131 rfl
theorem q8924 : (Jvm.Cond.methodLink "WasteHouseModel" (752 : Nat) ({ cls := "WasteHouseModel$BarredStoresModel", name := "step", desc := "(II)I" } : Jvm.MethodName)) ∈ lw_all := lw_g (lw_at lw_m36 132 rfl) rfl
theorem q8928 : (Jvm.Cond.stringRef "WasteHouseModel" (754 : Nat) "basin") ∈ lw_tbl := lw_at lw_m36 136 rfl
theorem q8929 : (Jvm.Cond.methodLink "WasteHouseModel" (756 : Nat) ({ cls := "WasteHouseModel$BarredStoresModel", name := "basin", desc := "(II)J" } : Jvm.MethodName)) ∈ lw_all := lw_g (lw_at lw_m36 137 rfl) rfl
theorem q8934 : (Jvm.Cond.stringRef "WasteHouseModel" (758 : Nat) "trial") ∈ lw_tbl := lw_at lw_m36 142 rfl
theorem q8935 : (Jvm.Cond.stringRef "WasteHouseModel" (760 : Nat) "iid") ∈ lw_tbl := lw_at lw_m36 143 rfl
theorem q8936 : (Jvm.Cond.constantDouble "WasteHouseModel" (762 : Nat) (4620693217682128896 : UInt64)) ∈ lw_all := lw_g (lw_at lw_m36 144 rfl) rfl
theorem q8937 : (Jvm.Cond.methodLink "WasteHouseModel" (764 : Nat) ({ cls := "WasteHouseModel$BarredStoresModel", name := "trial", desc := "(IID)I" } : Jvm.MethodName)) ∈ lw_all := lw_g (lw_at lw_m36 145 rfl) rfl
theorem q8948 : (Jvm.Cond.stringRef "WasteHouseModel" (767 : Nat) "mix") ∈ lw_tbl := lw_at lw_m36 156 rfl
theorem q8949 : (Jvm.Cond.methodLink "WasteHouseModel" (769 : Nat) ({ cls := "WasteHouseModel$BarredStoresModel", name := "mix", desc := "(II)I" } : Jvm.MethodName)) ∈ lw_all := lw_g (lw_at lw_m36 157 rfl) rfl
theorem q8953 : (Jvm.Cond.stringRef "WasteHouseModel" (771 : Nat) "key") ∈ lw_tbl := lw_at lw_m36 161 rfl
theorem q8954 : (Jvm.Cond.methodLink "WasteHouseModel" (773 : Nat) ({ cls := "WasteHouseModel$BarredStoresModel", name := "key", desc := "(II)Z" } : Jvm.MethodName)) ∈ lw_all := lw_g (lw_at lw_m36 162 rfl) rfl
theorem q8958 : (Jvm.Cond.methodLink "WasteHouseModel" (775 : Nat) ({ cls := "WasteHouseModel$BarredStoresModel", name := "open", desc := "(II)Z" } : Jvm.MethodName)) ∈ lw_all := lw_g (lw_at lw_m36 166 rfl) rfl
theorem q8962 : (Jvm.Cond.stringRef "WasteHouseModel" (777 : Nat) "first") ∈ lw_tbl := lw_at lw_m36 170 rfl
theorem q8963 : (Jvm.Cond.methodLink "WasteHouseModel" (779 : Nat) ({ cls := "WasteHouseModel$BarredStoresModel", name := "first", desc := "(I)I" } : Jvm.MethodName)) ∈ lw_all := lw_g (lw_at lw_m36 171 rfl) rfl
theorem q8967 : (Jvm.Cond.stringRef "WasteHouseModel" (781 : Nat) "drill") ∈ lw_tbl := lw_at lw_m36 175 rfl
theorem q8968 : (Jvm.Cond.methodLink "WasteHouseModel" (783 : Nat) ({ cls := "WasteHouseModel$BarredStoresModel", name := "drill", desc := "(II)I" } : Jvm.MethodName)) ∈ lw_all := lw_g (lw_at lw_m36 176 rfl) rfl
theorem q8972 : (Jvm.Cond.stringRef "WasteHouseModel" (785 : Nat) "inspect") ∈ lw_tbl := lw_at lw_m36 180 rfl
theorem q8973 : (Jvm.Cond.methodLink "WasteHouseModel" (787 : Nat) ({ cls := "WasteHouseModel$BarredStoresModel", name := "inspect", desc := "(IJ)I" } : Jvm.MethodName)) ∈ lw_all := lw_g (lw_at lw_m36 181 rfl) rfl
theorem q8977 : (Jvm.Cond.stringRef "WasteHouseModel" (210 : Nat) "product") ∈ lw_tbl := lw_at lw_m36 185 rfl
theorem q8978 : (Jvm.Cond.methodLink "WasteHouseModel" (211 : Nat) ({ cls := "WasteHouseModel", name := "product", desc := "()J" } : Jvm.MethodName)) ∈ lw_all := lw_g (lw_at lw_m36 186 rfl) rfl
theorem q8979 : (Jvm.Cond.privateMethod ({ cls := "WasteHouseModel", name := "product", desc := "()J" } : Jvm.MethodName)) ∈ lw_tbl := lw_at lw_m36 187 rfl
theorem q8980 : (Jvm.Cond.instanceMethod ({ cls := "WasteHouseModel", name := "product", desc := "()J" } : Jvm.MethodName)) ∈ lw_all := lw_g (lw_at lw_m36 188 rfl) rfl
theorem q8981 : (Jvm.Cond.code ({ cls := "WasteHouseModel", name := "product", desc := "()J" } : Jvm.MethodName) prog_56_method_43_code (1 : Nat) (Option.some Jvm.ClassFile.FieldType.long)) ∈ lw_all := lw_g (lw_at lw_m36 189 rfl) rfl
theorem q8982 : (Jvm.Cond.methodLink "WasteHouseModel" (790 : Nat) ({ cls := "WasteHouseModel", name := "productRead", desc := "()J" } : Jvm.MethodName)) ∈ lw_all := lw_g (lw_at lw_m36 190 rfl) rfl
theorem q8983 : (Jvm.Cond.privateMethod ({ cls := "WasteHouseModel", name := "productRead", desc := "()J" } : Jvm.MethodName)) ∈ lw_tbl := lw_at lw_m36 191 rfl
theorem q8984 : (Jvm.Cond.instanceMethod ({ cls := "WasteHouseModel", name := "productRead", desc := "()J" } : Jvm.MethodName)) ∈ lw_all := lw_g (lw_at lw_m36 192 rfl) rfl
theorem q8985 : (Jvm.Cond.code ({ cls := "WasteHouseModel", name := "productRead", desc := "()J" } : Jvm.MethodName) prog_56_method_25_code (3 : Nat) (Option.some Jvm.ClassFile.FieldType.long)) ∈ lw_all := lw_g (lw_at lw_m36 193 rfl) rfl
theorem q8986 : (Jvm.Cond.methodLink "WasteHouseModel" (254 : Nat) ({ cls := "WasteHouseModel$PartGraphsModel", name := "unit", desc := "(I)Z" } : Jvm.MethodName)) ∈ lw_all := lw_g (lw_at lw_m36 194 rfl) rfl
theorem q8990 : (Jvm.Cond.methodLink "WasteHouseModel" (255 : Nat) ({ cls := "WasteHouseModel$PartGraphsModel", name := "read", desc := "()I" } : Jvm.MethodName)) ∈ lw_all := lw_g (lw_at lw_m36 198 rfl) rfl
theorem q9049 : (Jvm.Cond.methodLink "WasteHouseModel" (793 : Nat) ({ cls := "WasteHouseModel$PartGraphsModel", name := "part", desc := "(IJ)I" } : Jvm.MethodName)) ∈ lw_all := lw_g (lw_at lw_m37 17 rfl) rfl
theorem q9054 : (Jvm.Cond.stringRef "WasteHouseModel" (795 : Nat) "fasten") ∈ lw_tbl := lw_at lw_m37 22 rfl
theorem q9055 : (Jvm.Cond.methodLink "WasteHouseModel" (797 : Nat) ({ cls := "WasteHouseModel$PartGraphsModel", name := "fasten", desc := "(III)I" } : Jvm.MethodName)) ∈ lw_all := lw_g (lw_at lw_m37 23 rfl) rfl
theorem q9059 : (Jvm.Cond.stringRef "WasteHouseModel" (799 : Nat) "cover") ∈ lw_tbl := lw_at lw_m37 27 rfl
theorem q9060 : (Jvm.Cond.methodLink "WasteHouseModel" (801 : Nat) ({ cls := "WasteHouseModel$PartGraphsModel", name := "cover", desc := "(II)Z" } : Jvm.MethodName)) ∈ lw_all := lw_g (lw_at lw_m37 28 rfl) rfl
theorem q9068 : (Jvm.Cond.methodLink "WasteHouseModel" (803 : Nat) ({ cls := "WasteHouseModel$PartGraphsModel", name := "way", desc := "(III)Z" } : Jvm.MethodName)) ∈ lw_all := lw_g (lw_at lw_m37 36 rfl) rfl
theorem q9072 : (Jvm.Cond.stringRef "WasteHouseModel" (805 : Nat) "before") ∈ lw_tbl := lw_at lw_m37 40 rfl
theorem q9073 : (Jvm.Cond.stringRef "WasteHouseModel" (806 : Nat) "ring") ∈ lw_tbl := lw_at lw_m37 41 rfl
theorem q9074 : (Jvm.Cond.stringRef "WasteHouseModel" (807 : Nat) "option") ∈ lw_tbl := lw_at lw_m37 42 rfl
theorem q9075 : (Jvm.Cond.methodLink "WasteHouseModel" (809 : Nat) ({ cls := "WasteHouseModel$PartGraphsModel", name := "option", desc := "(II)Z" } : Jvm.MethodName)) ∈ lw_all := lw_g (lw_at lw_m37 43 rfl) rfl
theorem q9079 : (Jvm.Cond.stringRef "WasteHouseModel" (811 : Nat) "family") ∈ lw_tbl := lw_at lw_m37 47 rfl
theorem q9080 : (Jvm.Cond.methodLink "WasteHouseModel" (813 : Nat) ({ cls := "WasteHouseModel$PartGraphsModel", name := "family", desc := "(II)I" } : Jvm.MethodName)) ∈ lw_all := lw_g (lw_at lw_m37 48 rfl) rfl
theorem q9096 : (Jvm.Cond.stringRef "WasteHouseModel" (815 : Nat) "holds") ∈ lw_tbl := lw_at lw_m37 64 rfl
theorem q9097 : (Jvm.Cond.methodLink "WasteHouseModel" (817 : Nat) ({ cls := "WasteHouseModel$PartGraphsModel", name := "holds", desc := "(III)Z" } : Jvm.MethodName)) ∈ lw_all := lw_g (lw_at lw_m37 65 rfl) rfl
theorem q9105 : (Jvm.Cond.stringRef "WasteHouseModel" (819 : Nat) "alike") ∈ lw_tbl := lw_at lw_m37 73 rfl
theorem q9106 : (Jvm.Cond.methodLink "WasteHouseModel" (821 : Nat) ({ cls := "WasteHouseModel$PartGraphsModel", name := "alike", desc := "(II)I" } : Jvm.MethodName)) ∈ lw_all := lw_g (lw_at lw_m37 74 rfl) rfl
theorem q9110 : (Jvm.Cond.stringRef "WasteHouseModel" (823 : Nat) "weight") ∈ lw_tbl := lw_at lw_m37 78 rfl
theorem q9111 : (Jvm.Cond.methodLink "WasteHouseModel" (825 : Nat) ({ cls := "WasteHouseModel$PartGraphsModel", name := "weight", desc := "(I)J" } : Jvm.MethodName)) ∈ lw_all := lw_g (lw_at lw_m37 79 rfl) rfl
theorem q9115 : (Jvm.Cond.stringRef "WasteHouseModel" (827 : Nat) "hazard") ∈ lw_tbl := lw_at lw_m37 83 rfl
theorem q9116 : (Jvm.Cond.methodLink "WasteHouseModel" (829 : Nat) ({ cls := "WasteHouseModel$PartGraphsModel", name := "hazard", desc := "(II)Z" } : Jvm.MethodName)) ∈ lw_all := lw_g (lw_at lw_m37 84 rfl) rfl
theorem q9120 : (Jvm.Cond.stringRef "WasteHouseModel" (831 : Nat) "damage") ∈ lw_tbl := lw_at lw_m37 88 rfl
theorem q9121 : (Jvm.Cond.methodLink "WasteHouseModel" (833 : Nat) ({ cls := "WasteHouseModel$PartGraphsModel", name := "damage", desc := "(II)I" } : Jvm.MethodName)) ∈ lw_all := lw_g (lw_at lw_m37 89 rfl) rfl
theorem q9125 : (Jvm.Cond.stringRef "WasteHouseModel" (835 : Nat) "free") ∈ lw_tbl := lw_at lw_m37 93 rfl
theorem q9126 : (Jvm.Cond.methodLink "WasteHouseModel" (837 : Nat) ({ cls := "WasteHouseModel$PartGraphsModel", name := "free", desc := "(IJ)Z" } : Jvm.MethodName)) ∈ lw_all := lw_g (lw_at lw_m37 94 rfl) rfl
theorem q9130 : (Jvm.Cond.stringRef "WasteHouseModel" (839 : Nat) "plain") ∈ lw_tbl := lw_at lw_m37 98 rfl
theorem q9131 : (Jvm.Cond.methodLink "WasteHouseModel" (841 : Nat) ({ cls := "WasteHouseModel$PartGraphsModel", name := "plain", desc := "(IJ)Z" } : Jvm.MethodName)) ∈ lw_all := lw_g (lw_at lw_m37 99 rfl) rfl
theorem q9135 : (Jvm.Cond.methodLink "WasteHouseModel" (843 : Nat) ({ cls := "WasteHouseModel$PartGraphsModel", name := "write", desc := "(I)I" } : Jvm.MethodName)) ∈ lw_all := lw_g (lw_at lw_m37 103 rfl) rfl
theorem q9160 : (Jvm.Cond.stringRef "WasteHouseModel" (844 : Nat) "loose") ∈ lw_tbl := lw_at lw_m37 128 rfl
theorem q9161 : (Jvm.Cond.methodLink "WasteHouseModel" (846 : Nat) ({ cls := "WasteHouseModel$PartGraphsModel", name := "loose", desc := "()I" } : Jvm.MethodName)) ∈ lw_all := lw_g (lw_at lw_m37 129 rfl) rfl
theorem q9165 : (Jvm.Cond.methodLink "WasteHouseModel" (213 : Nat) ({ cls := "WasteHouseModel$PartGraphsModel", name := "thrown", desc := "()I" } : Jvm.MethodName)) ∈ lw_all := lw_g (lw_at lw_m37 133 rfl) rfl
theorem q9169 : (Jvm.Cond.stringRef "WasteHouseModel" (214 : Nat) "apart") ∈ lw_tbl := lw_at lw_m37 137 rfl
theorem q9170 : (Jvm.Cond.methodLink "WasteHouseModel" (215 : Nat) ({ cls := "WasteHouseModel", name := "apart", desc := "()J" } : Jvm.MethodName)) ∈ lw_all := lw_g (lw_at lw_m37 138 rfl) rfl
theorem q9171 : (Jvm.Cond.privateMethod ({ cls := "WasteHouseModel", name := "apart", desc := "()J" } : Jvm.MethodName)) ∈ lw_tbl := lw_at lw_m37 139 rfl
theorem q9172 : (Jvm.Cond.instanceMethod ({ cls := "WasteHouseModel", name := "apart", desc := "()J" } : Jvm.MethodName)) ∈ lw_all := lw_g (lw_at lw_m37 140 rfl) rfl
theorem q9173 : (Jvm.Cond.code ({ cls := "WasteHouseModel", name := "apart", desc := "()J" } : Jvm.MethodName) prog_56_method_44_code (1 : Nat) (Option.some Jvm.ClassFile.FieldType.long)) ∈ lw_all := lw_g (lw_at lw_m37 141 rfl) rfl
theorem q9174 : (Jvm.Cond.stringRef "WasteHouseModel" (848 : Nat) "act") ∈ lw_tbl := lw_at lw_m37 142 rfl
theorem q9175 : (Jvm.Cond.methodLink "WasteHouseModel" (849 : Nat) ({ cls := "WasteHouseModel$ApartCostModel", name := "change", desc := "(IIJ)Z" } : Jvm.MethodName)) ∈ lw_all := lw_g (lw_at lw_m37 143 rfl) rfl
theorem q9179 : (Jvm.Cond.stringRef "WasteHouseModel" (851 : Nat) "turn") ∈ lw_tbl := lw_at lw_m37 147 rfl
theorem q9180 : (Jvm.Cond.methodLink "WasteHouseModel" (853 : Nat) ({ cls := "WasteHouseModel$ApartCostModel", name := "turn", desc := "(IIJ)Z" } : Jvm.MethodName)) ∈ lw_all := lw_g (lw_at lw_m37 148 rfl) rfl
theorem q9184 : (Jvm.Cond.stringRef "WasteHouseModel" (855 : Nat) "worth") ∈ lw_tbl := lw_at lw_m37 152 rfl
theorem q9185 : (Jvm.Cond.methodLink "WasteHouseModel" (857 : Nat) ({ cls := "WasteHouseModel$ApartCostModel", name := "worth", desc := "(IJ)Z" } : Jvm.MethodName)) ∈ lw_all := lw_g (lw_at lw_m37 153 rfl) rfl
theorem q9196 : (Jvm.Cond.stringRef "WasteHouseModel" (859 : Nat) "rest") ∈ lw_tbl := lw_at lw_m37 164 rfl
theorem q9197 : (Jvm.Cond.stringRef "WasteHouseModel" (861 : Nat) "ll") ∈ lw_tbl := lw_at lw_m37 165 rfl
theorem q9198 : (Jvm.Cond.methodLink "WasteHouseModel" (863 : Nat) ({ cls := "WasteHouseModel$ApartCostModel", name := "rest", desc := "(JJ)Z" } : Jvm.MethodName)) ∈ lw_all := lw_g (lw_at lw_m37 166 rfl) rfl
theorem q9203 : (Jvm.Cond.stringRef "WasteHouseModel" (866 : Nat) "breaks") ∈ lw_tbl := lw_at lw_m37 171 rfl
theorem q9204 : (Jvm.Cond.methodLink "WasteHouseModel" (868 : Nat) ({ cls := "WasteHouseModel$ApartCostModel", name := "breaks", desc := "(I)Z" } : Jvm.MethodName)) ∈ lw_all := lw_g (lw_at lw_m37 172 rfl) rfl
theorem q9208 : (Jvm.Cond.stringRef "WasteHouseModel" (870 : Nat) "sure") ∈ lw_tbl := lw_at lw_m37 176 rfl
theorem q9209 : (Jvm.Cond.methodLink "WasteHouseModel" (872 : Nat) ({ cls := "WasteHouseModel$ApartCostModel", name := "sure", desc := "(IJJ)Z" } : Jvm.MethodName)) ∈ lw_all := lw_g (lw_at lw_m37 177 rfl) rfl
theorem q9214 : (Jvm.Cond.stringRef "WasteHouseModel" (874 : Nat) "states") ∈ lw_tbl := lw_at lw_m37 182 rfl
theorem q9215 : (Jvm.Cond.methodLink "WasteHouseModel" (876 : Nat) ({ cls := "WasteHouseModel$ApartCostModel", name := "states", desc := "()J" } : Jvm.MethodName)) ∈ lw_all := lw_g (lw_at lw_m37 183 rfl) rfl
theorem q9226 : (Jvm.Cond.methodLink "WasteHouseModel" (878 : Nat) ({ cls := "WasteHouseModel$ApartCostModel", name := "run", desc := "(J)I" } : Jvm.MethodName)) ∈ lw_all := lw_g (lw_at lw_m37 194 rfl) rfl
theorem q9265 : (Jvm.Cond.methodLink "WasteHouseModel" (879 : Nat) ({ cls := "WasteHouseModel$ApartCostModel", name := "step", desc := "(I)I" } : Jvm.MethodName)) ∈ lw_all := lw_g (lw_at lw_m37 233 rfl) rfl
theorem q9269 : (Jvm.Cond.stringRef "WasteHouseModel" (881 : Nat) "stops") ∈ lw_tbl := lw_at lw_m37 237 rfl
theorem q9270 : (Jvm.Cond.methodLink "WasteHouseModel" (883 : Nat) ({ cls := "WasteHouseModel$ApartCostModel", name := "stops", desc := "(I)I" } : Jvm.MethodName)) ∈ lw_all := lw_g (lw_at lw_m37 238 rfl) rfl
theorem q9274 : (Jvm.Cond.stringRef "WasteHouseModel" (885 : Nat) "other") ∈ lw_tbl := lw_at lw_m38 2 rfl
theorem q9275 : (Jvm.Cond.methodLink "WasteHouseModel" (887 : Nat) ({ cls := "WasteHouseModel$ApartCostModel", name := "other", desc := "(I)I" } : Jvm.MethodName)) ∈ lw_all := lw_g (lw_at lw_m38 3 rfl) rfl
theorem q9283 : (Jvm.Cond.stringRef "WasteHouseModel" (889 : Nat) "gain") ∈ lw_tbl := lw_at lw_m38 11 rfl
theorem q9284 : (Jvm.Cond.methodLink "WasteHouseModel" (891 : Nat) ({ cls := "WasteHouseModel$ApartCostModel", name := "gain", desc := "(I)J" } : Jvm.MethodName)) ∈ lw_all := lw_g (lw_at lw_m38 12 rfl) rfl
theorem q9288 : (Jvm.Cond.stringRef "WasteHouseModel" (893 : Nat) "proved") ∈ lw_tbl := lw_at lw_m38 16 rfl
theorem q9289 : (Jvm.Cond.methodLink "WasteHouseModel" (895 : Nat) ({ cls := "WasteHouseModel$ApartCostModel", name := "proved", desc := "()Z" } : Jvm.MethodName)) ∈ lw_all := lw_g (lw_at lw_m38 17 rfl) rfl
theorem q9293 : (Jvm.Cond.methodLink "WasteHouseModel" (897 : Nat) ({ cls := "WasteHouseModel$ApartCostModel", name := "bound", desc := "()J" } : Jvm.MethodName)) ∈ lw_all := lw_g (lw_at lw_m38 21 rfl) rfl
theorem q9297 : (Jvm.Cond.methodLink "WasteHouseModel" (899 : Nat) ({ cls := "WasteHouseModel$ApartCostModel", name := "test", desc := "(IJ)I" } : Jvm.MethodName)) ∈ lw_all := lw_g (lw_at lw_m38 25 rfl) rfl
theorem q9305 : (Jvm.Cond.stringRef "WasteHouseModel" (901 : Nat) "stations") ∈ lw_tbl := lw_at lw_m38 33 rfl
theorem q9306 : (Jvm.Cond.methodLink "WasteHouseModel" (903 : Nat) ({ cls := "WasteHouseModel$ApartCostModel", name := "stations", desc := "(I)I" } : Jvm.MethodName)) ∈ lw_all := lw_g (lw_at lw_m38 34 rfl) rfl
theorem q9319 : (Jvm.Cond.stringRef "WasteHouseModel" (905 : Nat) "station") ∈ lw_tbl := lw_at lw_m38 47 rfl
theorem q9320 : (Jvm.Cond.methodLink "WasteHouseModel" (907 : Nat) ({ cls := "WasteHouseModel$ApartCostModel", name := "station", desc := "(I)I" } : Jvm.MethodName)) ∈ lw_all := lw_g (lw_at lw_m38 48 rfl) rfl
theorem q9324 : (Jvm.Cond.stringRef "WasteHouseModel" (217 : Nat) "samples") ∈ lw_tbl := lw_at lw_m38 52 rfl
theorem q9325 : (Jvm.Cond.methodLink "WasteHouseModel" (218 : Nat) ({ cls := "WasteHouseModel", name := "samples", desc := "()J" } : Jvm.MethodName)) ∈ lw_all := lw_g (lw_at lw_m38 53 rfl) rfl
theorem q9326 : (Jvm.Cond.privateMethod ({ cls := "WasteHouseModel", name := "samples", desc := "()J" } : Jvm.MethodName)) ∈ lw_tbl := lw_at lw_m38 54 rfl
theorem q9327 : (Jvm.Cond.instanceMethod ({ cls := "WasteHouseModel", name := "samples", desc := "()J" } : Jvm.MethodName)) ∈ lw_all := lw_g (lw_at lw_m38 55 rfl) rfl
theorem q9328 : (Jvm.Cond.code ({ cls := "WasteHouseModel", name := "samples", desc := "()J" } : Jvm.MethodName) prog_56_method_45_code (1 : Nat) (Option.some Jvm.ClassFile.FieldType.long)) ∈ lw_all := lw_g (lw_at lw_m38 56 rfl) rfl
theorem q9329 : (Jvm.Cond.methodLink "WasteHouseModel" (909 : Nat) ({ cls := "WasteHouseModel$PurityOddsModel", name := "plan", desc := "(II)I" } : Jvm.MethodName)) ∈ lw_all := lw_g (lw_at lw_m38 57 rfl) rfl
theorem q9333 : (Jvm.Cond.stringRef "WasteHouseModel" (911 : Nat) "odds") ∈ lw_tbl := lw_at lw_m38 61 rfl
theorem q9334 : (Jvm.Cond.stringRef "WasteHouseModel" (913 : Nat) "illi") ∈ lw_tbl := lw_at lw_m38 62 rfl
theorem q9335 : (Jvm.Cond.methodLink "WasteHouseModel" (915 : Nat) ({ cls := "WasteHouseModel$PurityOddsModel", name := "odds", desc := "(IJJI)J" } : Jvm.MethodName)) ∈ lw_all := lw_g (lw_at lw_m38 63 rfl) rfl
theorem q9350 : (Jvm.Cond.stringRef "WasteHouseModel" (918 : Nat) "best") ∈ lw_tbl := lw_at lw_m38 78 rfl
theorem q9351 : (Jvm.Cond.stringRef "WasteHouseModel" (920 : Nat) "illll") ∈ lw_tbl := lw_at lw_m38 79 rfl
theorem q9352 : (Jvm.Cond.methodLink "WasteHouseModel" (922 : Nat) ({ cls := "WasteHouseModel$PurityOddsModel", name := "best", desc := "(IJJJJ)I" } : Jvm.MethodName)) ∈ lw_all := lw_g (lw_at lw_m38 80 rfl) rfl
theorem q9365 : (Jvm.Cond.stringRef "WasteHouseModel" (925 : Nat) "risk") ∈ lw_tbl := lw_at lw_m38 93 rfl
theorem q9366 : (Jvm.Cond.methodLink "WasteHouseModel" (927 : Nat) ({ cls := "WasteHouseModel$PurityOddsModel", name := "risk", desc := "(III)J" } : Jvm.MethodName)) ∈ lw_all := lw_g (lw_at lw_m38 94 rfl) rfl
theorem q9370 : (Jvm.Cond.stringRef "WasteHouseModel" (929 : Nat) "lot") ∈ lw_tbl := lw_at lw_m38 98 rfl
theorem q9371 : (Jvm.Cond.stringRef "WasteHouseModel" (930 : Nat) "piece") ∈ lw_tbl := lw_at lw_m38 99 rfl
theorem q9372 : (Jvm.Cond.stringRef "WasteHouseModel" (931 : Nat) "repeats") ∈ lw_tbl := lw_at lw_m38 100 rfl
theorem q9373 : (Jvm.Cond.methodLink "WasteHouseModel" (933 : Nat) ({ cls := "WasteHouseModel$PurityOddsModel", name := "repeats", desc := "(I)I" } : Jvm.MethodName)) ∈ lw_all := lw_g (lw_at lw_m38 101 rfl) rfl
theorem q9377 : (Jvm.Cond.methodLink "WasteHouseModel" (935 : Nat) ({ cls := "WasteHouseModel$PurityOddsModel", name := "step", desc := "(JJJ)Z" } : Jvm.MethodName)) ∈ lw_all := lw_g (lw_at lw_m38 105 rfl) rfl
theorem q9382 : (Jvm.Cond.stringRef "WasteHouseModel" (938 : Nat) "price") ∈ lw_tbl := lw_at lw_m38 110 rfl
theorem q9383 : (Jvm.Cond.stringRef "WasteHouseModel" (939 : Nat) "third") ∈ lw_tbl := lw_at lw_m38 111 rfl
theorem q9384 : (Jvm.Cond.methodLink "WasteHouseModel" (941 : Nat) ({ cls := "WasteHouseModel$PurityOddsModel", name := "third", desc := "(IJJ)I" } : Jvm.MethodName)) ∈ lw_all := lw_g (lw_at lw_m38 112 rfl) rfl
theorem q9388 : (Jvm.Cond.methodLink "WasteHouseModel" (943 : Nat) ({ cls := "WasteHouseModel$PurityOddsModel", name := "place", desc := "(II)I" } : Jvm.MethodName)) ∈ lw_all := lw_g (lw_at lw_m38 116 rfl) rfl
theorem q9395 : (Jvm.Cond.stringRef "WasteHouseModel" (945 : Nat) "dry") ∈ lw_tbl := lw_at lw_m38 123 rfl
theorem q9396 : (Jvm.Cond.methodLink "WasteHouseModel" (947 : Nat) ({ cls := "WasteHouseModel$PurityOddsModel", name := "dry", desc := "(IJJ)Z" } : Jvm.MethodName)) ∈ lw_all := lw_g (lw_at lw_m38 124 rfl) rfl
theorem q9400 : (Jvm.Cond.stringRef "WasteHouseModel" (949 : Nat) "moisture") ∈ lw_tbl := lw_at lw_m38 128 rfl
theorem q9401 : (Jvm.Cond.methodLink "WasteHouseModel" (951 : Nat) ({ cls := "WasteHouseModel$PurityOddsModel", name := "moisture", desc := "(II)J" } : Jvm.MethodName)) ∈ lw_all := lw_g (lw_at lw_m38 129 rfl) rfl
theorem q9405 : (Jvm.Cond.stringRef "WasteHouseModel" (953 : Nat) "trend") ∈ lw_tbl := lw_at lw_m38 133 rfl
theorem q9406 : (Jvm.Cond.methodLink "WasteHouseModel" (955 : Nat) ({ cls := "WasteHouseModel$PurityOddsModel", name := "trend", desc := "(I)I" } : Jvm.MethodName)) ∈ lw_all := lw_g (lw_at lw_m38 134 rfl) rfl
theorem q9410 : (Jvm.Cond.stringRef "WasteHouseModel" (220 : Nat) "deposits") ∈ lw_tbl := lw_at lw_m38 138 rfl
theorem q9411 : (Jvm.Cond.methodLink "WasteHouseModel" (221 : Nat) ({ cls := "WasteHouseModel", name := "deposits", desc := "()J" } : Jvm.MethodName)) ∈ lw_all := lw_g (lw_at lw_m38 139 rfl) rfl
theorem q9412 : (Jvm.Cond.privateMethod ({ cls := "WasteHouseModel", name := "deposits", desc := "()J" } : Jvm.MethodName)) ∈ lw_tbl := lw_at lw_m38 140 rfl
theorem q9413 : (Jvm.Cond.instanceMethod ({ cls := "WasteHouseModel", name := "deposits", desc := "()J" } : Jvm.MethodName)) ∈ lw_all := lw_g (lw_at lw_m38 141 rfl) rfl
theorem q9414 : (Jvm.Cond.code ({ cls := "WasteHouseModel", name := "deposits", desc := "()J" } : Jvm.MethodName) prog_56_method_46_code (1 : Nat) (Option.some Jvm.ClassFile.FieldType.long)) ∈ lw_all := lw_g (lw_at lw_m38 142 rfl) rfl
theorem q9415 : (Jvm.Cond.stringRef "WasteHouseModel" (957 : Nat) "width") ∈ lw_tbl := lw_at lw_m38 143 rfl
theorem q9416 : (Jvm.Cond.methodLink "WasteHouseModel" (959 : Nat) ({ cls := "WasteHouseModel$DepositCodesModel", name := "width", desc := "(II)Z" } : Jvm.MethodName)) ∈ lw_all := lw_g (lw_at lw_m38 144 rfl) rfl
theorem q9422 : (Jvm.Cond.methodLink "WasteHouseModel" (961 : Nat) ({ cls := "WasteHouseModel$DepositCodesModel", name := "read", desc := "()I" } : Jvm.MethodName)) ∈ lw_all := lw_g (lw_at lw_m38 150 rfl) rfl
theorem q9445 : (Jvm.Cond.stringRef "WasteHouseModel" (962 : Nat) "back") ∈ lw_tbl := lw_at lw_m38 173 rfl
theorem q9446 : (Jvm.Cond.methodLink "WasteHouseModel" (964 : Nat) ({ cls := "WasteHouseModel$DepositCodesModel", name := "back", desc := "()I" } : Jvm.MethodName)) ∈ lw_all := lw_g (lw_at lw_m38 174 rfl) rfl
theorem q9450 : (Jvm.Cond.stringRef "WasteHouseModel" (966 : Nat) "digit") ∈ lw_tbl := lw_at lw_m38 178 rfl
theorem q9451 : (Jvm.Cond.methodLink "WasteHouseModel" (968 : Nat) ({ cls := "WasteHouseModel$DepositCodesModel", name := "digit", desc := "(I)I" } : Jvm.MethodName)) ∈ lw_all := lw_g (lw_at lw_m38 179 rfl) rfl
theorem q9455 : (Jvm.Cond.methodLink "WasteHouseModel" (970 : Nat) ({ cls := "WasteHouseModel$DepositCodesModel", name := "check", desc := "(IJ)I" } : Jvm.MethodName)) ∈ lw_all := lw_g (lw_at lw_m38 183 rfl) rfl
theorem q9459 : (Jvm.Cond.stringRef "WasteHouseModel" (972 : Nat) "good") ∈ lw_tbl := lw_at lw_m38 187 rfl
theorem q9460 : (Jvm.Cond.methodLink "WasteHouseModel" (974 : Nat) ({ cls := "WasteHouseModel$DepositCodesModel", name := "good", desc := "(IJ)Z" } : Jvm.MethodName)) ∈ lw_all := lw_g (lw_at lw_m38 188 rfl) rfl
theorem q9464 : (Jvm.Cond.methodLink "WasteHouseModel" (976 : Nat) ({ cls := "WasteHouseModel$DepositCodesModel", name := "machine", desc := "()I" } : Jvm.MethodName)) ∈ lw_all := lw_g (lw_at lw_m38 192 rfl) rfl
theorem q9468 : (Jvm.Cond.stringRef "WasteHouseModel" (978 : Nat) "shape") ∈ lw_tbl := lw_at lw_m38 196 rfl
theorem q9469 : (Jvm.Cond.methodLink "WasteHouseModel" (980 : Nat) ({ cls := "WasteHouseModel$DepositCodesModel", name := "shape", desc := "(III)Z" } : Jvm.MethodName)) ∈ lw_all := lw_g (lw_at lw_m38 197 rfl) rfl
theorem q9474 : (Jvm.Cond.stringRef "WasteHouseModel" (982 : Nat) "full") ∈ lw_tbl := lw_at lw_m38 202 rfl
theorem q9475 : (Jvm.Cond.stringRef "WasteHouseModel" (984 : Nat) "ib") ∈ lw_tbl := lw_at lw_m38 203 rfl
theorem q9476 : (Jvm.Cond.methodLink "WasteHouseModel" (986 : Nat) ({ cls := "WasteHouseModel$DepositCodesModel", name := "full", desc := "(IZ)Z" } : Jvm.MethodName)) ∈ lw_all := lw_g (lw_at lw_m38 204 rfl) rfl
theorem q9480 : (Jvm.Cond.stringRef "WasteHouseModel" (989 : Nat) "power") ∈ lw_tbl := lw_at lw_m38 208 rfl
theorem q9481 : (Jvm.Cond.methodLink "WasteHouseModel" (991 : Nat) ({ cls := "WasteHouseModel$DepositCodesModel", name := "power", desc := "(IZ)Z" } : Jvm.MethodName)) ∈ lw_all := lw_g (lw_at lw_m38 209 rfl) rfl
theorem q9485 : (Jvm.Cond.stringRef "WasteHouseModel" (993 : Nat) "give") ∈ lw_tbl := lw_at lw_m38 213 rfl
theorem q9486 : (Jvm.Cond.stringRef "WasteHouseModel" (994 : Nat) "reason") ∈ lw_tbl := lw_at lw_m38 214 rfl
theorem q9487 : (Jvm.Cond.methodLink "WasteHouseModel" (996 : Nat) ({ cls := "WasteHouseModel$DepositCodesModel", name := "reason", desc := "()I" } : Jvm.MethodName)) ∈ lw_all := lw_g (lw_at lw_m38 215 rfl) rfl
theorem q9491 : (Jvm.Cond.stringRef "WasteHouseModel" (998 : Nat) "count") ∈ lw_tbl := lw_at lw_m38 219 rfl
theorem q9492 : (Jvm.Cond.methodLink "WasteHouseModel" (1000 : Nat) ({ cls := "WasteHouseModel$DepositCodesModel", name := "count", desc := "(II)J" } : Jvm.MethodName)) ∈ lw_all := lw_g (lw_at lw_m38 220 rfl) rfl
theorem q9497 : (Jvm.Cond.methodLink "WasteHouseModel" (1002 : Nat) ({ cls := "WasteHouseModel$DepositCodesModel", name := "join", desc := "(II)I" } : Jvm.MethodName)) ∈ lw_all := lw_g (lw_at lw_m38 225 rfl) rfl
theorem q9505 : (Jvm.Cond.stringRef "WasteHouseModel" (1004 : Nat) "double") ∈ lw_tbl := lw_at lw_m38 233 rfl
theorem q9506 : (Jvm.Cond.methodLink "WasteHouseModel" (1006 : Nat) ({ cls := "WasteHouseModel$DepositCodesModel", name := "double2", desc := "(II)I" } : Jvm.MethodName)) ∈ lw_all := lw_g (lw_at lw_m38 234 rfl) rfl
theorem q9514 : (Jvm.Cond.methodLink "WasteHouseModel" (1009 : Nat) ({ cls := "WasteHouseModel$DepositCodesModel", name := "mark", desc := "(JJJ)Z" } : Jvm.MethodName)) ∈ lw_all := lw_g (lw_at lw_m39 2 rfl) rfl
theorem q9521 : (Jvm.Cond.stringRef "WasteHouseModel" (1011 : Nat) "coupon") ∈ lw_tbl := lw_at lw_m39 9 rfl
theorem q9522 : (Jvm.Cond.methodLink "WasteHouseModel" (1013 : Nat) ({ cls := "WasteHouseModel$DepositCodesModel", name := "coupon", desc := "(I)I" } : Jvm.MethodName)) ∈ lw_all := lw_g (lw_at lw_m39 10 rfl) rfl
theorem q9526 : (Jvm.Cond.stringRef "WasteHouseModel" (1015 : Nat) "redeem") ∈ lw_tbl := lw_at lw_m39 14 rfl
theorem q9527 : (Jvm.Cond.methodLink "WasteHouseModel" (1017 : Nat) ({ cls := "WasteHouseModel$DepositCodesModel", name := "redeem", desc := "(II)Z" } : Jvm.MethodName)) ∈ lw_all := lw_g (lw_at lw_m39 15 rfl) rfl
theorem q9532 : (Jvm.Cond.stringRef "WasteHouseModel" (1019 : Nat) "shop") ∈ lw_tbl := lw_at lw_m39 20 rfl
theorem q9533 : (Jvm.Cond.methodLink "WasteHouseModel" (1021 : Nat) ({ cls := "WasteHouseModel$DepositCodesModel", name := "shop", desc := "(I)J" } : Jvm.MethodName)) ∈ lw_all := lw_g (lw_at lw_m39 21 rfl) rfl
theorem q9537 : (Jvm.Cond.methodLink "WasteHouseModel" (1023 : Nat) ({ cls := "WasteHouseModel$DepositCodesModel", name := "clear", desc := "(I)I" } : Jvm.MethodName)) ∈ lw_all := lw_g (lw_at lw_m39 25 rfl) rfl
theorem q9544 : (Jvm.Cond.stringRef "WasteHouseModel" (1025 : Nat) "cleared") ∈ lw_tbl := lw_at lw_m39 32 rfl
theorem q9545 : (Jvm.Cond.methodLink "WasteHouseModel" (1027 : Nat) ({ cls := "WasteHouseModel$DepositCodesModel", name := "cleared", desc := "(I)J" } : Jvm.MethodName)) ∈ lw_all := lw_g (lw_at lw_m39 33 rfl) rfl
theorem q9550 : (Jvm.Cond.stringRef "WasteHouseModel" (1029 : Nat) "fraud") ∈ lw_tbl := lw_at lw_m39 38 rfl
theorem q9551 : (Jvm.Cond.methodLink "WasteHouseModel" (1031 : Nat) ({ cls := "WasteHouseModel$DepositCodesModel", name := "fraud", desc := "(I)I" } : Jvm.MethodName)) ∈ lw_all := lw_g (lw_at lw_m39 39 rfl) rfl
theorem q9555 : (Jvm.Cond.methodLink "WasteHouseModel" (223 : Nat) ({ cls := "WasteHouseModel$DepositCodesModel", name := "thrown", desc := "()I" } : Jvm.MethodName)) ∈ lw_all := lw_g (lw_at lw_m39 43 rfl) rfl
theorem q9559 : (Jvm.Cond.methodLink "WasteHouseModel" (177 : Nat) ({ cls := "WasteHouseModel", name := "print", desc := "(I)V" } : Jvm.MethodName)) ∈ lw_all := lw_g (lw_at lw_m39 47 rfl) rfl
theorem q9560 : (Jvm.Cond.privateMethod ({ cls := "WasteHouseModel", name := "print", desc := "(I)V" } : Jvm.MethodName)) ∈ lw_tbl := lw_at lw_m39 48 rfl
theorem q9561 : (Jvm.Cond.instanceMethod ({ cls := "WasteHouseModel", name := "print", desc := "(I)V" } : Jvm.MethodName)) ∈ lw_all := lw_g (lw_at lw_m39 49 rfl) rfl
theorem q9562 : (Jvm.Cond.code ({ cls := "WasteHouseModel", name := "print", desc := "(I)V" } : Jvm.MethodName) prog_56_method_12_code (2 : Nat) (Option.none : Option Jvm.ClassFile.FieldType)) ∈ lw_all := lw_g (lw_at lw_m39 50 rfl) rfl
theorem q9563 : (Jvm.Cond.methodLink "WasteHouseModel" (231 : Nat) ({ cls := "WasteHouseModel", name := "printNumber", desc := "(J)V" } : Jvm.MethodName)) ∈ lw_all := lw_g (lw_at lw_m39 51 rfl) rfl
theorem q9564 : (Jvm.Cond.privateMethod ({ cls := "WasteHouseModel", name := "printNumber", desc := "(J)V" } : Jvm.MethodName)) ∈ lw_tbl := lw_at lw_m39 52 rfl
theorem q9565 : (Jvm.Cond.instanceMethod ({ cls := "WasteHouseModel", name := "printNumber", desc := "(J)V" } : Jvm.MethodName)) ∈ lw_all := lw_g (lw_at lw_m39 53 rfl) rfl
theorem q9566 : (Jvm.Cond.code ({ cls := "WasteHouseModel", name := "printNumber", desc := "(J)V" } : Jvm.MethodName) prog_56_method_13_code (7 : Nat) (Option.none : Option Jvm.ClassFile.FieldType)) ∈ lw_all := lw_g (lw_at lw_m39 54 rfl) rfl
theorem q9567 : (Jvm.Cond.constantLong "WasteHouseModel" (180 : Nat) (-9 : Int64)) ∈ lw_all := lw_g (lw_at lw_m39 55 rfl) rfl
theorem q9569 : (Jvm.Cond.instanceMethod ({ cls := "WasteHouseModel", name := "made", desc := "()I" } : Jvm.MethodName)) ∈ lw_all := lw_g (lw_at lw_m39 57 rfl) rfl
theorem q9570 : (Jvm.Cond.selects "WasteHouseModel" ({ cls := "WasteHouseModel", name := "made", desc := "()I" } : Jvm.MethodName) ({ cls := "WasteHouseModel", name := "made", desc := "()I" } : Jvm.MethodName)) ∈ lw_all := lw_g (lw_at lw_m39 58 rfl) rfl
theorem q9571 : (Jvm.Cond.code ({ cls := "WasteHouseModel", name := "made", desc := "()I" } : Jvm.MethodName) prog_56_method_16_code (1 : Nat) (Option.some Jvm.ClassFile.FieldType.int)) ∈ lw_all := lw_g (lw_at lw_m39 59 rfl) rfl
theorem q9573 : (Jvm.Cond.instanceMethod ({ cls := "WasteHouseModel", name := "out", desc := "(I)I" } : Jvm.MethodName)) ∈ lw_all := lw_g (lw_at lw_m39 61 rfl) rfl
theorem q9574 : (Jvm.Cond.selects "WasteHouseModel" ({ cls := "WasteHouseModel", name := "out", desc := "(I)I" } : Jvm.MethodName) ({ cls := "WasteHouseModel", name := "out", desc := "(I)I" } : Jvm.MethodName)) ∈ lw_all := lw_g (lw_at lw_m39 62 rfl) rfl
theorem q9575 : (Jvm.Cond.code ({ cls := "WasteHouseModel", name := "out", desc := "(I)I" } : Jvm.MethodName) prog_56_method_17_code (2 : Nat) (Option.some Jvm.ClassFile.FieldType.int)) ∈ lw_all := lw_g (lw_at lw_m39 63 rfl) rfl
theorem q9577 : (Jvm.Cond.instanceMethod ({ cls := "WasteHouseModel", name := "wrong", desc := "()I" } : Jvm.MethodName)) ∈ lw_all := lw_g (lw_at lw_m39 65 rfl) rfl
theorem q9578 : (Jvm.Cond.selects "WasteHouseModel" ({ cls := "WasteHouseModel", name := "wrong", desc := "()I" } : Jvm.MethodName) ({ cls := "WasteHouseModel", name := "wrong", desc := "()I" } : Jvm.MethodName)) ∈ lw_all := lw_g (lw_at lw_m39 66 rfl) rfl
theorem q9579 : (Jvm.Cond.code ({ cls := "WasteHouseModel", name := "wrong", desc := "()I" } : Jvm.MethodName) prog_56_method_18_code (1 : Nat) (Option.some Jvm.ClassFile.FieldType.int)) ∈ lw_all := lw_g (lw_at lw_m39 67 rfl) rfl
theorem q9581 : (Jvm.Cond.instanceMethod ({ cls := "WasteHouseModel", name := "answers", desc := "()I" } : Jvm.MethodName)) ∈ lw_all := lw_g (lw_at lw_m39 69 rfl) rfl
theorem q9582 : (Jvm.Cond.selects "WasteHouseModel" ({ cls := "WasteHouseModel", name := "answers", desc := "()I" } : Jvm.MethodName) ({ cls := "WasteHouseModel", name := "answers", desc := "()I" } : Jvm.MethodName)) ∈ lw_all := lw_g (lw_at lw_m39 70 rfl) rfl
theorem q9583 : (Jvm.Cond.code ({ cls := "WasteHouseModel", name := "answers", desc := "()I" } : Jvm.MethodName) prog_56_method_19_code (1 : Nat) (Option.some Jvm.ClassFile.FieldType.int)) ∈ lw_all := lw_g (lw_at lw_m39 71 rfl) rfl
theorem q9585 : (Jvm.Cond.instanceMethod ({ cls := "WasteHouseModel", name := "answer", desc := "(I)J" } : Jvm.MethodName)) ∈ lw_all := lw_g (lw_at lw_m39 73 rfl) rfl
theorem q9586 : (Jvm.Cond.selects "WasteHouseModel" ({ cls := "WasteHouseModel", name := "answer", desc := "(I)J" } : Jvm.MethodName) ({ cls := "WasteHouseModel", name := "answer", desc := "(I)J" } : Jvm.MethodName)) ∈ lw_all := lw_g (lw_at lw_m39 74 rfl) rfl
theorem q9587 : (Jvm.Cond.code ({ cls := "WasteHouseModel", name := "answer", desc := "(I)J" } : Jvm.MethodName) prog_56_method_20_code (2 : Nat) (Option.some Jvm.ClassFile.FieldType.long)) ∈ lw_all := lw_g (lw_at lw_m39 75 rfl) rfl
theorem q9671 : (Jvm.Cond.castable "WasteHouseModel" "java/lang/Object") ∈ lw_tbl := lw_at lw_m39 159 rfl
theorem in_X48 : ∀ w ∈ wsX480, w ∈ lw_all := lw_in wsX480 [7544, 7546, 7548, 7550, 7552, 7554, 7556, 7558, 7560, 7562, 7564, 7566, 7568, 7570, 7572, 7574, 7576, 7578, 7580, 7582, 7584, 7586, 7588, 7590, 7592, 7594, 7596, 7598, 7600, 7602, 7604, 7606, 7608, 7610] (by decide +kernel) (by decide +kernel)
