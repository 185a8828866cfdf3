/-! WasteHouseModel$TicketChainModel -/
set_option maxRecDepth 100000
def RX49 : String := "WasteHouseModel$TicketChainModel"
def TX49 : u_T := fun k => match k with
  | 0 => ("WasteHouseModel$TicketChainModel", "cubes", "[I", true)
  | 1 => ("WasteHouseModel$TicketChainModel", "squares", "[I", true)
  | 2 => ("WasteHouseModel$TicketChainModel", "toldDay", "[I", true)
  | 3 => ("WasteHouseModel$TicketChainModel", "toldVehicle", "[I", true)
  | 4 => ("WasteHouseModel$TicketChainModel", "toldTare", "[I", true)
  | 5 => ("WasteHouseModel$TicketChainModel", "toldCount", "I", false)
  | 6 => ("WasteHouseModel$TicketChainModel", "fields", "[J", true)
  | 7 => ("WasteHouseModel$TicketChainModel", "weights", "[I", true)
  | 8 => ("WasteHouseModel$TicketChainModel", "tickets", "I", false)
  | 9 => ("WasteHouseModel$TicketChainModel", "numbers", "I", false)
  | 10 => ("WasteHouseModel$TicketChainModel", "gaps", "[I", true)
  | 11 => ("WasteHouseModel$TicketChainModel", "gapCount", "I", false)
  | 12 => ("WasteHouseModel$TicketChainModel", "bytes", "[B", true)
  | 13 => ("WasteHouseModel$TicketChainModel", "rowDay", "[I", true)
  | 14 => ("WasteHouseModel$TicketChainModel", "rowCount", "I", false)
  | 15 => ("WasteHouseModel$TicketChainModel", "fault", "I", false)
  | 16 => ("WasteHouseModel$TicketChainModel", "row", "[B", true)
  | 17 => ("WasteHouseModel$TicketChainModel", "rowSize", "I", false)
  | 18 => ("WasteHouseModel$TicketChainModel", "result", "[B", true)
  | 19 => ("WasteHouseModel$TicketChainModel", "state", "[I", true)
  | 20 => ("WasteHouseModel$TicketChainModel", "now", "[I", true)
  | 21 => ("WasteHouseModel$TicketChainModel", "words", "[I", true)
  | 22 => ("WasteHouseModel$TicketChainModel", "level", "[B", true)
  | 23 => ("WasteHouseModel$TicketChainModel", "form", "[B", true)
  | _ => ("WasteHouseModel$TicketChainModel", "formSize", "I", false)
def tyX49 : Nat → FieldType := fun k => match k with
  | 0 => .array .int
  | 1 => .array .int
  | 2 => .array .int
  | 3 => .array .int
  | 4 => .array .int
  | 5 => .int
  | 6 => .array .long
  | 7 => .array .int
  | 8 => .int
  | 9 => .int
  | 10 => .array .int
  | 11 => .int
  | 12 => .array .byte
  | 13 => .array .int
  | 14 => .int
  | 15 => .int
  | 16 => .array .byte
  | 17 => .int
  | 18 => .array .byte
  | 19 => .array .int
  | 20 => .array .int
  | 21 => .array .int
  | 22 => .array .byte
  | 23 => .array .byte
  | _ => .int
abbrev wsX490 : List Cond := u_ws RX49 TX49 25
set_option maxRecDepth 100000 in
theorem nmX49 : ∀ a, a < 25 → ∀ b, b < 25 → a ≠ b → (TX49 a).2.1 ≠ (TX49 b).2.1 := by decide +kernel
set_option maxRecDepth 100000 in
theorem tyX49_ok : ∀ k, k < 25 → parseFieldDescriptor (TX49 k).2.2.1 = some (tyX49 k) := by decide +kernel
abbrev cX49_init : ByteArray := prog_65_method_1_code
def yX49_init : MethodName := ⟨RX49, "<init>", "()V"⟩
def dkwX49_init_10 : List UInt8 := [167, 255, 178, 177]
abbrev dktX49_init_10 : List UInt8 := dkwX49_init_10 ++ []
def dkwX49_init_9 : List UInt8 := [16, 8, 162, 0, 14, 42, 180, 0, 13, 27, 28, 3, 184, 0, 63, 79, 132, 1, 1, 132, 2, 1]
abbrev dktX49_init_9 : List UInt8 := dkwX49_init_9 ++ dktX49_init_10
def dkwX49_init_8 : List UInt8 := [62, 132, 4, 1, 167, 255, 230, 29, 153, 0, 34, 42, 180, 0, 7, 27, 28, 4, 184, 0, 63, 79, 27]
abbrev dktX49_init_8 : List UInt8 := dkwX49_init_8 ++ dktX49_init_9
def dkwX49_init_7 : List UInt8 := [54, 4, 21, 4, 28, 162, 0, 26, 29, 153, 0, 14, 28, 21, 4, 112, 153, 0, 7, 4, 167, 0, 4, 3]
abbrev dktX49_init_7 : List UInt8 := dkwX49_init_7 ++ dktX49_init_8
def dkwX49_init_6 : List UInt8 := [181, 0, 57, 42, 16, 120, 188, 8, 181, 0, 60, 3, 60, 5, 61, 27, 16, 64, 162, 0, 78, 4, 62, 5]
abbrev dktX49_init_6 : List UInt8 := dkwX49_init_6 ++ dktX49_init_7
def dkwX49_init_5 : List UInt8 := [42, 16, 8, 188, 10, 181, 0, 51, 42, 16, 64, 188, 10, 181, 0, 54, 42, 17, 25, 0, 188, 8]
abbrev dktX49_init_5 : List UInt8 := dkwX49_init_5 ++ dktX49_init_6
def dkwX49_init_4 : List UInt8 := [17, 0, 192, 188, 8, 181, 0, 42, 42, 16, 32, 188, 8, 181, 0, 45, 42, 16, 8, 188, 10, 181, 0, 48]
abbrev dktX49_init_4 : List UInt8 := dkwX49_init_4 ++ dktX49_init_5
def dkwX49_init_3 : List UInt8 := [181, 0, 32, 42, 17, 57, 8, 188, 8, 181, 0, 35, 42, 17, 0, 200, 188, 10, 181, 0, 39, 42]
abbrev dktX49_init_3 : List UInt8 := dkwX49_init_3 ++ dktX49_init_4
def dkwX49_init_2 : List UInt8 := [17, 7, 8, 188, 11, 181, 0, 25, 42, 17, 6, 64, 188, 10, 181, 0, 29, 42, 17, 1, 144, 188, 10]
abbrev dktX49_init_2 : List UInt8 := dkwX49_init_2 ++ dktX49_init_3
def dkwX49_init_1 : List UInt8 := [188, 10, 181, 0, 16, 42, 17, 4, 76, 188, 10, 181, 0, 19, 42, 17, 4, 76, 188, 10, 181, 0, 22, 42]
abbrev dktX49_init_1 : List UInt8 := dkwX49_init_1 ++ dktX49_init_2
def dkwX49_init_0 : List UInt8 := [42, 183, 0, 1, 42, 16, 64, 188, 10, 181, 0, 7, 42, 16, 8, 188, 10, 181, 0, 13, 42, 17, 4, 76]
abbrev dktX49_init_0 : List UInt8 := dkwX49_init_0 ++ dktX49_init_1
theorem dksX49_init_0 : cX49_init.data.toList.drop 0 = dktX49_init_0 := by decide +kernel
theorem dksX49_init_1 : cX49_init.data.toList.drop 24 = dktX49_init_1 := dk_seg dksX49_init_0 24 rfl rfl
theorem dksX49_init_2 : cX49_init.data.toList.drop 48 = dktX49_init_2 := dk_seg dksX49_init_1 24 rfl rfl
theorem dksX49_init_3 : cX49_init.data.toList.drop 71 = dktX49_init_3 := dk_seg dksX49_init_2 23 rfl rfl
theorem dksX49_init_4 : cX49_init.data.toList.drop 93 = dktX49_init_4 := dk_seg dksX49_init_3 22 rfl rfl
theorem dksX49_init_5 : cX49_init.data.toList.drop 117 = dktX49_init_5 := dk_seg dksX49_init_4 24 rfl rfl
theorem dksX49_init_6 : cX49_init.data.toList.drop 139 = dktX49_init_6 := dk_seg dksX49_init_5 22 rfl rfl
theorem dksX49_init_7 : cX49_init.data.toList.drop 163 = dktX49_init_7 := dk_seg dksX49_init_6 24 rfl rfl
theorem dksX49_init_8 : cX49_init.data.toList.drop 187 = dktX49_init_8 := dk_seg dksX49_init_7 24 rfl rfl
theorem dksX49_init_9 : cX49_init.data.toList.drop 210 = dktX49_init_9 := dk_seg dksX49_init_8 23 rfl rfl
theorem dksX49_init_10 : cX49_init.data.toList.drop 232 = dktX49_init_10 := dk_seg dksX49_init_9 22 rfl rfl
theorem dX49_init_0 : decode cX49_init 0 = .ok (.aload_n 0, 1) := dk_42 (dk_at dksX49_init_0 0 rfl rfl)
theorem dX49_init_1 : decode cX49_init 1 = .ok (.invokespecial 1, 3) := dk_183 0 1 (dk_at dksX49_init_0 1 rfl rfl)
theorem dX49_init_4 : decode cX49_init 4 = .ok (.aload_n 0, 1) := dk_42 (dk_at dksX49_init_0 4 rfl rfl)
theorem dX49_init_5 : decode cX49_init 5 = .ok (.bipush 64, 2) := dk_16 64 (dk_at dksX49_init_0 5 rfl rfl)
theorem dX49_init_7 : decode cX49_init 7 = .ok (.newarray .int, 2) := dk_188_10 (dk_at dksX49_init_0 7 rfl rfl)
theorem dX49_init_9 : decode cX49_init 9 = .ok (.putfield 7, 3) := dk_181 0 7 (dk_at dksX49_init_0 9 rfl rfl)
theorem dX49_init_12 : decode cX49_init 12 = .ok (.aload_n 0, 1) := dk_42 (dk_at dksX49_init_0 12 rfl rfl)
theorem dX49_init_13 : decode cX49_init 13 = .ok (.bipush 8, 2) := dk_16 8 (dk_at dksX49_init_0 13 rfl rfl)
theorem dX49_init_15 : decode cX49_init 15 = .ok (.newarray .int, 2) := dk_188_10 (dk_at dksX49_init_0 15 rfl rfl)
theorem dX49_init_17 : decode cX49_init 17 = .ok (.putfield 13, 3) := dk_181 0 13 (dk_at dksX49_init_0 17 rfl rfl)
theorem dX49_init_20 : decode cX49_init 20 = .ok (.aload_n 0, 1) := dk_42 (dk_at dksX49_init_0 20 rfl rfl)
theorem dX49_init_21 : decode cX49_init 21 = .ok (.sipush 1100, 3) := dk_17 4 76 (dk_at dksX49_init_0 21 rfl rfl)
theorem dX49_init_24 : decode cX49_init 24 = .ok (.newarray .int, 2) := dk_188_10 (dk_at dksX49_init_1 0 rfl rfl)
theorem dX49_init_26 : decode cX49_init 26 = .ok (.putfield 16, 3) := dk_181 0 16 (dk_at dksX49_init_1 2 rfl rfl)
theorem dX49_init_29 : decode cX49_init 29 = .ok (.aload_n 0, 1) := dk_42 (dk_at dksX49_init_1 5 rfl rfl)
theorem dX49_init_30 : decode cX49_init 30 = .ok (.sipush 1100, 3) := dk_17 4 76 (dk_at dksX49_init_1 6 rfl rfl)
theorem dX49_init_33 : decode cX49_init 33 = .ok (.newarray .int, 2) := dk_188_10 (dk_at dksX49_init_1 9 rfl rfl)
theorem dX49_init_35 : decode cX49_init 35 = .ok (.putfield 19, 3) := dk_181 0 19 (dk_at dksX49_init_1 11 rfl rfl)
theorem dX49_init_38 : decode cX49_init 38 = .ok (.aload_n 0, 1) := dk_42 (dk_at dksX49_init_1 14 rfl rfl)
theorem dX49_init_39 : decode cX49_init 39 = .ok (.sipush 1100, 3) := dk_17 4 76 (dk_at dksX49_init_1 15 rfl rfl)
theorem dX49_init_42 : decode cX49_init 42 = .ok (.newarray .int, 2) := dk_188_10 (dk_at dksX49_init_1 18 rfl rfl)
theorem dX49_init_44 : decode cX49_init 44 = .ok (.putfield 22, 3) := dk_181 0 22 (dk_at dksX49_init_1 20 rfl rfl)
theorem dX49_init_47 : decode cX49_init 47 = .ok (.aload_n 0, 1) := dk_42 (dk_at dksX49_init_1 23 rfl rfl)
theorem dX49_init_48 : decode cX49_init 48 = .ok (.sipush 1800, 3) := dk_17 7 8 (dk_at dksX49_init_2 0 rfl rfl)
theorem dX49_init_51 : decode cX49_init 51 = .ok (.newarray .long, 2) := dk_188_11 (dk_at dksX49_init_2 3 rfl rfl)
theorem dX49_init_53 : decode cX49_init 53 = .ok (.putfield 25, 3) := dk_181 0 25 (dk_at dksX49_init_2 5 rfl rfl)
theorem dX49_init_56 : decode cX49_init 56 = .ok (.aload_n 0, 1) := dk_42 (dk_at dksX49_init_2 8 rfl rfl)
theorem dX49_init_57 : decode cX49_init 57 = .ok (.sipush 1600, 3) := dk_17 6 64 (dk_at dksX49_init_2 9 rfl rfl)
theorem dX49_init_60 : decode cX49_init 60 = .ok (.newarray .int, 2) := dk_188_10 (dk_at dksX49_init_2 12 rfl rfl)
theorem dX49_init_62 : decode cX49_init 62 = .ok (.putfield 29, 3) := dk_181 0 29 (dk_at dksX49_init_2 14 rfl rfl)
theorem dX49_init_65 : decode cX49_init 65 = .ok (.aload_n 0, 1) := dk_42 (dk_at dksX49_init_2 17 rfl rfl)
theorem dX49_init_66 : decode cX49_init 66 = .ok (.sipush 400, 3) := dk_17 1 144 (dk_at dksX49_init_2 18 rfl rfl)
theorem dX49_init_69 : decode cX49_init 69 = .ok (.newarray .int, 2) := dk_188_10 (dk_at dksX49_init_2 21 rfl rfl)
theorem dX49_init_71 : decode cX49_init 71 = .ok (.putfield 32, 3) := dk_181 0 32 (dk_at dksX49_init_3 0 rfl rfl)
theorem dX49_init_74 : decode cX49_init 74 = .ok (.aload_n 0, 1) := dk_42 (dk_at dksX49_init_3 3 rfl rfl)
theorem dX49_init_75 : decode cX49_init 75 = .ok (.sipush 14600, 3) := dk_17 57 8 (dk_at dksX49_init_3 4 rfl rfl)
theorem dX49_init_78 : decode cX49_init 78 = .ok (.newarray .byte, 2) := dk_188_8 (dk_at dksX49_init_3 7 rfl rfl)
theorem dX49_init_80 : decode cX49_init 80 = .ok (.putfield 35, 3) := dk_181 0 35 (dk_at dksX49_init_3 9 rfl rfl)
theorem dX49_init_83 : decode cX49_init 83 = .ok (.aload_n 0, 1) := dk_42 (dk_at dksX49_init_3 12 rfl rfl)
theorem dX49_init_84 : decode cX49_init 84 = .ok (.sipush 200, 3) := dk_17 0 200 (dk_at dksX49_init_3 13 rfl rfl)
theorem dX49_init_87 : decode cX49_init 87 = .ok (.newarray .int, 2) := dk_188_10 (dk_at dksX49_init_3 16 rfl rfl)
theorem dX49_init_89 : decode cX49_init 89 = .ok (.putfield 39, 3) := dk_181 0 39 (dk_at dksX49_init_3 18 rfl rfl)
theorem dX49_init_92 : decode cX49_init 92 = .ok (.aload_n 0, 1) := dk_42 (dk_at dksX49_init_3 21 rfl rfl)
theorem dX49_init_93 : decode cX49_init 93 = .ok (.sipush 192, 3) := dk_17 0 192 (dk_at dksX49_init_4 0 rfl rfl)
theorem dX49_init_96 : decode cX49_init 96 = .ok (.newarray .byte, 2) := dk_188_8 (dk_at dksX49_init_4 3 rfl rfl)
theorem dX49_init_98 : decode cX49_init 98 = .ok (.putfield 42, 3) := dk_181 0 42 (dk_at dksX49_init_4 5 rfl rfl)
theorem dX49_init_101 : decode cX49_init 101 = .ok (.aload_n 0, 1) := dk_42 (dk_at dksX49_init_4 8 rfl rfl)
theorem dX49_init_102 : decode cX49_init 102 = .ok (.bipush 32, 2) := dk_16 32 (dk_at dksX49_init_4 9 rfl rfl)
theorem dX49_init_104 : decode cX49_init 104 = .ok (.newarray .byte, 2) := dk_188_8 (dk_at dksX49_init_4 11 rfl rfl)
theorem dX49_init_106 : decode cX49_init 106 = .ok (.putfield 45, 3) := dk_181 0 45 (dk_at dksX49_init_4 13 rfl rfl)
theorem dX49_init_109 : decode cX49_init 109 = .ok (.aload_n 0, 1) := dk_42 (dk_at dksX49_init_4 16 rfl rfl)
theorem dX49_init_110 : decode cX49_init 110 = .ok (.bipush 8, 2) := dk_16 8 (dk_at dksX49_init_4 17 rfl rfl)
theorem dX49_init_112 : decode cX49_init 112 = .ok (.newarray .int, 2) := dk_188_10 (dk_at dksX49_init_4 19 rfl rfl)
theorem dX49_init_114 : decode cX49_init 114 = .ok (.putfield 48, 3) := dk_181 0 48 (dk_at dksX49_init_4 21 rfl rfl)
theorem dX49_init_117 : decode cX49_init 117 = .ok (.aload_n 0, 1) := dk_42 (dk_at dksX49_init_5 0 rfl rfl)
theorem dX49_init_118 : decode cX49_init 118 = .ok (.bipush 8, 2) := dk_16 8 (dk_at dksX49_init_5 1 rfl rfl)
theorem dX49_init_120 : decode cX49_init 120 = .ok (.newarray .int, 2) := dk_188_10 (dk_at dksX49_init_5 3 rfl rfl)
theorem dX49_init_122 : decode cX49_init 122 = .ok (.putfield 51, 3) := dk_181 0 51 (dk_at dksX49_init_5 5 rfl rfl)
theorem dX49_init_125 : decode cX49_init 125 = .ok (.aload_n 0, 1) := dk_42 (dk_at dksX49_init_5 8 rfl rfl)
theorem dX49_init_126 : decode cX49_init 126 = .ok (.bipush 64, 2) := dk_16 64 (dk_at dksX49_init_5 9 rfl rfl)
theorem dX49_init_128 : decode cX49_init 128 = .ok (.newarray .int, 2) := dk_188_10 (dk_at dksX49_init_5 11 rfl rfl)
theorem dX49_init_130 : decode cX49_init 130 = .ok (.putfield 54, 3) := dk_181 0 54 (dk_at dksX49_init_5 13 rfl rfl)
theorem dX49_init_133 : decode cX49_init 133 = .ok (.aload_n 0, 1) := dk_42 (dk_at dksX49_init_5 16 rfl rfl)
theorem dX49_init_134 : decode cX49_init 134 = .ok (.sipush 6400, 3) := dk_17 25 0 (dk_at dksX49_init_5 17 rfl rfl)
theorem dX49_init_137 : decode cX49_init 137 = .ok (.newarray .byte, 2) := dk_188_8 (dk_at dksX49_init_5 20 rfl rfl)
theorem dX49_init_139 : decode cX49_init 139 = .ok (.putfield 57, 3) := dk_181 0 57 (dk_at dksX49_init_6 0 rfl rfl)
theorem dX49_init_142 : decode cX49_init 142 = .ok (.aload_n 0, 1) := dk_42 (dk_at dksX49_init_6 3 rfl rfl)
theorem dX49_init_143 : decode cX49_init 143 = .ok (.bipush 120, 2) := dk_16 120 (dk_at dksX49_init_6 4 rfl rfl)
theorem dX49_init_145 : decode cX49_init 145 = .ok (.newarray .byte, 2) := dk_188_8 (dk_at dksX49_init_6 6 rfl rfl)
theorem dX49_init_147 : decode cX49_init 147 = .ok (.putfield 60, 3) := dk_181 0 60 (dk_at dksX49_init_6 8 rfl rfl)
theorem dX49_init_150 : decode cX49_init 150 = .ok (.iconst 0, 1) := dk_3 (dk_at dksX49_init_6 11 rfl rfl)
theorem dX49_init_151 : decode cX49_init 151 = .ok (.istore_n 1, 1) := dk_60 (dk_at dksX49_init_6 12 rfl rfl)
theorem dX49_init_152 : decode cX49_init 152 = .ok (.iconst 2, 1) := dk_5 (dk_at dksX49_init_6 13 rfl rfl)
theorem dX49_init_153 : decode cX49_init 153 = .ok (.istore_n 2, 1) := dk_61 (dk_at dksX49_init_6 14 rfl rfl)
theorem dX49_init_154 : decode cX49_init 154 = .ok (.iload_n 1, 1) := dk_27 (dk_at dksX49_init_6 15 rfl rfl)
theorem dX49_init_155 : decode cX49_init 155 = .ok (.bipush 64, 2) := dk_16 64 (dk_at dksX49_init_6 16 rfl rfl)
theorem dX49_init_157 : decode cX49_init 157 = .ok (.if_icmp .ge 78, 3) := dk_162 0 78 (dk_at dksX49_init_6 18 rfl rfl)
theorem dX49_init_160 : decode cX49_init 160 = .ok (.iconst 1, 1) := dk_4 (dk_at dksX49_init_6 21 rfl rfl)
theorem dX49_init_161 : decode cX49_init 161 = .ok (.istore_n 3, 1) := dk_62 (dk_at dksX49_init_6 22 rfl rfl)
theorem dX49_init_162 : decode cX49_init 162 = .ok (.iconst 2, 1) := dk_5 (dk_at dksX49_init_6 23 rfl rfl)
theorem dX49_init_163 : decode cX49_init 163 = .ok (.istore 4, 2) := dk_54 4 (dk_at dksX49_init_7 0 rfl rfl)
theorem dX49_init_165 : decode cX49_init 165 = .ok (.iload 4, 2) := dk_21 4 (dk_at dksX49_init_7 2 rfl rfl)
theorem dX49_init_167 : decode cX49_init 167 = .ok (.iload_n 2, 1) := dk_28 (dk_at dksX49_init_7 4 rfl rfl)
theorem dX49_init_168 : decode cX49_init 168 = .ok (.if_icmp .ge 26, 3) := dk_162 0 26 (dk_at dksX49_init_7 5 rfl rfl)
theorem dX49_init_171 : decode cX49_init 171 = .ok (.iload_n 3, 1) := dk_29 (dk_at dksX49_init_7 8 rfl rfl)
theorem dX49_init_172 : decode cX49_init 172 = .ok (.ifCond .eq 14, 3) := dk_153 0 14 (dk_at dksX49_init_7 9 rfl rfl)
theorem dX49_init_175 : decode cX49_init 175 = .ok (.iload_n 2, 1) := dk_28 (dk_at dksX49_init_7 12 rfl rfl)
theorem dX49_init_176 : decode cX49_init 176 = .ok (.iload 4, 2) := dk_21 4 (dk_at dksX49_init_7 13 rfl rfl)
theorem dX49_init_178 : decode cX49_init 178 = .ok (.irem, 1) := dk_112 (dk_at dksX49_init_7 15 rfl rfl)
theorem dX49_init_179 : decode cX49_init 179 = .ok (.ifCond .eq 7, 3) := dk_153 0 7 (dk_at dksX49_init_7 16 rfl rfl)
theorem dX49_init_182 : decode cX49_init 182 = .ok (.iconst 1, 1) := dk_4 (dk_at dksX49_init_7 19 rfl rfl)
theorem dX49_init_183 : decode cX49_init 183 = .ok (.goto 4, 3) := dk_167 0 4 (dk_at dksX49_init_7 20 rfl rfl)
theorem dX49_init_186 : decode cX49_init 186 = .ok (.iconst 0, 1) := dk_3 (dk_at dksX49_init_7 23 rfl rfl)
theorem dX49_init_187 : decode cX49_init 187 = .ok (.istore_n 3, 1) := dk_62 (dk_at dksX49_init_8 0 rfl rfl)
theorem dX49_init_188 : decode cX49_init 188 = .ok (.iinc 4 1, 3) := dk_132 4 1 (dk_at dksX49_init_8 1 rfl rfl)
theorem dX49_init_191 : decode cX49_init 191 = .ok (.goto (-26), 3) := dk_167 255 230 (dk_at dksX49_init_8 4 rfl rfl)
theorem dX49_init_194 : decode cX49_init 194 = .ok (.iload_n 3, 1) := dk_29 (dk_at dksX49_init_8 7 rfl rfl)
theorem dX49_init_195 : decode cX49_init 195 = .ok (.ifCond .eq 34, 3) := dk_153 0 34 (dk_at dksX49_init_8 8 rfl rfl)
theorem dX49_init_198 : decode cX49_init 198 = .ok (.aload_n 0, 1) := dk_42 (dk_at dksX49_init_8 11 rfl rfl)
theorem dX49_init_199 : decode cX49_init 199 = .ok (.getfield 7, 3) := dk_180 0 7 (dk_at dksX49_init_8 12 rfl rfl)
theorem dX49_init_202 : decode cX49_init 202 = .ok (.iload_n 1, 1) := dk_27 (dk_at dksX49_init_8 15 rfl rfl)
theorem dX49_init_203 : decode cX49_init 203 = .ok (.iload_n 2, 1) := dk_28 (dk_at dksX49_init_8 16 rfl rfl)
theorem dX49_init_204 : decode cX49_init 204 = .ok (.iconst 1, 1) := dk_4 (dk_at dksX49_init_8 17 rfl rfl)
theorem dX49_init_205 : decode cX49_init 205 = .ok (.invokestatic 63, 3) := dk_184 0 63 (dk_at dksX49_init_8 18 rfl rfl)
theorem dX49_init_208 : decode cX49_init 208 = .ok (.iastore, 1) := dk_79 (dk_at dksX49_init_8 21 rfl rfl)
theorem dX49_init_209 : decode cX49_init 209 = .ok (.iload_n 1, 1) := dk_27 (dk_at dksX49_init_8 22 rfl rfl)
theorem dX49_init_210 : decode cX49_init 210 = .ok (.bipush 8, 2) := dk_16 8 (dk_at dksX49_init_9 0 rfl rfl)
theorem dX49_init_212 : decode cX49_init 212 = .ok (.if_icmp .ge 14, 3) := dk_162 0 14 (dk_at dksX49_init_9 2 rfl rfl)
theorem dX49_init_215 : decode cX49_init 215 = .ok (.aload_n 0, 1) := dk_42 (dk_at dksX49_init_9 5 rfl rfl)
theorem dX49_init_216 : decode cX49_init 216 = .ok (.getfield 13, 3) := dk_180 0 13 (dk_at dksX49_init_9 6 rfl rfl)
theorem dX49_init_219 : decode cX49_init 219 = .ok (.iload_n 1, 1) := dk_27 (dk_at dksX49_init_9 9 rfl rfl)
theorem dX49_init_220 : decode cX49_init 220 = .ok (.iload_n 2, 1) := dk_28 (dk_at dksX49_init_9 10 rfl rfl)
theorem dX49_init_221 : decode cX49_init 221 = .ok (.iconst 0, 1) := dk_3 (dk_at dksX49_init_9 11 rfl rfl)
theorem dX49_init_222 : decode cX49_init 222 = .ok (.invokestatic 63, 3) := dk_184 0 63 (dk_at dksX49_init_9 12 rfl rfl)
theorem dX49_init_225 : decode cX49_init 225 = .ok (.iastore, 1) := dk_79 (dk_at dksX49_init_9 15 rfl rfl)
theorem dX49_init_226 : decode cX49_init 226 = .ok (.iinc 1 1, 3) := dk_132 1 1 (dk_at dksX49_init_9 16 rfl rfl)
theorem dX49_init_229 : decode cX49_init 229 = .ok (.iinc 2 1, 3) := dk_132 2 1 (dk_at dksX49_init_9 19 rfl rfl)
theorem dX49_init_232 : decode cX49_init 232 = .ok (.goto (-78), 3) := dk_167 255 178 (dk_at dksX49_init_10 0 rfl rfl)
theorem dX49_init_235 : decode cX49_init 235 = .ok (.return_, 1) := dk_177 (dk_at dksX49_init_10 3 rfl rfl)
abbrev cX49_rootOf : ByteArray := prog_65_method_4_code
def yX49_rootOf : MethodName := ⟨RX49, "rootOf", "(IZ)I"⟩
def dkwX49_rootOf_2 : List UInt8 := [167, 255, 217, 32, 136, 172]
abbrev dktX49_rootOf_2 : List UInt8 := dkwX49_rootOf_2 ++ []
def dkwX49_rootOf_1 : List UInt8 := [55, 6, 22, 6, 26, 27, 184, 0, 77, 153, 0, 9, 22, 6, 65, 167, 0, 7, 22, 6, 55, 4]
abbrev dktX49_rootOf_1 : List UInt8 := dkwX49_rootOf_1 ++ dktX49_rootOf_2
def dkwX49_rootOf_0 : List UInt8 := [9, 65, 20, 0, 75, 55, 4, 22, 4, 32, 101, 10, 148, 158, 0, 36, 32, 22, 4, 97, 20, 0, 73, 109]
abbrev dktX49_rootOf_0 : List UInt8 := dkwX49_rootOf_0 ++ dktX49_rootOf_1
theorem dksX49_rootOf_0 : cX49_rootOf.data.toList.drop 0 = dktX49_rootOf_0 := by decide +kernel
theorem dksX49_rootOf_1 : cX49_rootOf.data.toList.drop 24 = dktX49_rootOf_1 := dk_seg dksX49_rootOf_0 24 rfl rfl
theorem dksX49_rootOf_2 : cX49_rootOf.data.toList.drop 46 = dktX49_rootOf_2 := dk_seg dksX49_rootOf_1 22 rfl rfl
theorem dX49_rootOf_0 : decode cX49_rootOf 0 = .ok (.lconst 0, 1) := dk_9 (dk_at dksX49_rootOf_0 0 rfl rfl)
theorem dX49_rootOf_1 : decode cX49_rootOf 1 = .ok (.lstore_n 2, 1) := dk_65 (dk_at dksX49_rootOf_0 1 rfl rfl)
theorem dX49_rootOf_2 : decode cX49_rootOf 2 = .ok (.ldc2_w 75, 3) := dk_20 0 75 (dk_at dksX49_rootOf_0 2 rfl rfl)
theorem dX49_rootOf_5 : decode cX49_rootOf 5 = .ok (.lstore 4, 2) := dk_55 4 (dk_at dksX49_rootOf_0 5 rfl rfl)
theorem dX49_rootOf_7 : decode cX49_rootOf 7 = .ok (.lload 4, 2) := dk_22 4 (dk_at dksX49_rootOf_0 7 rfl rfl)
theorem dX49_rootOf_9 : decode cX49_rootOf 9 = .ok (.lload_n 2, 1) := dk_32 (dk_at dksX49_rootOf_0 9 rfl rfl)
theorem dX49_rootOf_10 : decode cX49_rootOf 10 = .ok (.lsub, 1) := dk_101 (dk_at dksX49_rootOf_0 10 rfl rfl)
theorem dX49_rootOf_11 : decode cX49_rootOf 11 = .ok (.lconst 1, 1) := dk_10 (dk_at dksX49_rootOf_0 11 rfl rfl)
theorem dX49_rootOf_12 : decode cX49_rootOf 12 = .ok (.lcmp, 1) := dk_148 (dk_at dksX49_rootOf_0 12 rfl rfl)
theorem dX49_rootOf_13 : decode cX49_rootOf 13 = .ok (.ifCond .le 36, 3) := dk_158 0 36 (dk_at dksX49_rootOf_0 13 rfl rfl)
theorem dX49_rootOf_16 : decode cX49_rootOf 16 = .ok (.lload_n 2, 1) := dk_32 (dk_at dksX49_rootOf_0 16 rfl rfl)
theorem dX49_rootOf_17 : decode cX49_rootOf 17 = .ok (.lload 4, 2) := dk_22 4 (dk_at dksX49_rootOf_0 17 rfl rfl)
theorem dX49_rootOf_19 : decode cX49_rootOf 19 = .ok (.ladd, 1) := dk_97 (dk_at dksX49_rootOf_0 19 rfl rfl)
theorem dX49_rootOf_20 : decode cX49_rootOf 20 = .ok (.ldc2_w 73, 3) := dk_20 0 73 (dk_at dksX49_rootOf_0 20 rfl rfl)
theorem dX49_rootOf_23 : decode cX49_rootOf 23 = .ok (.ldiv, 1) := dk_109 (dk_at dksX49_rootOf_0 23 rfl rfl)
theorem dX49_rootOf_24 : decode cX49_rootOf 24 = .ok (.lstore 6, 2) := dk_55 6 (dk_at dksX49_rootOf_1 0 rfl rfl)
theorem dX49_rootOf_26 : decode cX49_rootOf 26 = .ok (.lload 6, 2) := dk_22 6 (dk_at dksX49_rootOf_1 2 rfl rfl)
theorem dX49_rootOf_28 : decode cX49_rootOf 28 = .ok (.iload_n 0, 1) := dk_26 (dk_at dksX49_rootOf_1 4 rfl rfl)
theorem dX49_rootOf_29 : decode cX49_rootOf 29 = .ok (.iload_n 1, 1) := dk_27 (dk_at dksX49_rootOf_1 5 rfl rfl)
theorem dX49_rootOf_30 : decode cX49_rootOf 30 = .ok (.invokestatic 77, 3) := dk_184 0 77 (dk_at dksX49_rootOf_1 6 rfl rfl)
theorem dX49_rootOf_33 : decode cX49_rootOf 33 = .ok (.ifCond .eq 9, 3) := dk_153 0 9 (dk_at dksX49_rootOf_1 9 rfl rfl)
theorem dX49_rootOf_36 : decode cX49_rootOf 36 = .ok (.lload 6, 2) := dk_22 6 (dk_at dksX49_rootOf_1 12 rfl rfl)
theorem dX49_rootOf_38 : decode cX49_rootOf 38 = .ok (.lstore_n 2, 1) := dk_65 (dk_at dksX49_rootOf_1 14 rfl rfl)
theorem dX49_rootOf_39 : decode cX49_rootOf 39 = .ok (.goto 7, 3) := dk_167 0 7 (dk_at dksX49_rootOf_1 15 rfl rfl)
theorem dX49_rootOf_42 : decode cX49_rootOf 42 = .ok (.lload 6, 2) := dk_22 6 (dk_at dksX49_rootOf_1 18 rfl rfl)
theorem dX49_rootOf_44 : decode cX49_rootOf 44 = .ok (.lstore 4, 2) := dk_55 4 (dk_at dksX49_rootOf_1 20 rfl rfl)
theorem dX49_rootOf_46 : decode cX49_rootOf 46 = .ok (.goto (-39), 3) := dk_167 255 217 (dk_at dksX49_rootOf_2 0 rfl rfl)
theorem dX49_rootOf_49 : decode cX49_rootOf 49 = .ok (.lload_n 2, 1) := dk_32 (dk_at dksX49_rootOf_2 3 rfl rfl)
theorem dX49_rootOf_50 : decode cX49_rootOf 50 = .ok (.l2i, 1) := dk_136 (dk_at dksX49_rootOf_2 4 rfl rfl)
theorem dX49_rootOf_51 : decode cX49_rootOf 51 = .ok (.ireturn, 1) := dk_172 (dk_at dksX49_rootOf_2 5 rfl rfl)
abbrev cX49_isAtMost : ByteArray := prog_65_method_3_code
def yX49_isAtMost : MethodName := ⟨RX49, "isAtMost", "(JIZ)Z"⟩
def dkwX49_isAtMost_9 : List UInt8 := [9, 148, 154, 0, 7, 4, 167, 0, 4, 3, 172]
abbrev dktX49_isAtMost_9 : List UInt8 := dkwX49_isAtMost_9 ++ []
def dkwX49_isAtMost_8 : List UInt8 := [22, 20, 28, 133, 16, 42, 121, 148, 155, 0, 21, 22, 20, 28, 133, 16, 42, 121, 148, 154, 0, 14, 22, 22]
abbrev dktX49_isAtMost_8 : List UInt8 := dkwX49_isAtMost_8 ++ dktX49_isAtMost_9
def dkwX49_isAtMost_7 : List UInt8 := [55, 20, 22, 14, 20, 0, 71, 127, 22, 16, 20, 0, 71, 127, 97, 22, 18, 20, 0, 71, 127, 97, 55, 22]
abbrev dktX49_isAtMost_7 : List UInt8 := dkwX49_isAtMost_7 ++ dktX49_isAtMost_8
def dkwX49_isAtMost_6 : List UInt8 := [22, 6, 105, 97, 22, 16, 16, 18, 123, 97, 55, 18, 22, 12, 22, 4, 105, 22, 18, 16, 18, 123, 97]
abbrev dktX49_isAtMost_6 : List UInt8 := dkwX49_isAtMost_6 ++ dktX49_isAtMost_7
def dkwX49_isAtMost_5 : List UInt8 := [22, 4, 105, 22, 10, 22, 6, 105, 97, 22, 14, 16, 18, 123, 97, 55, 16, 22, 10, 22, 4, 105, 22, 12]
abbrev dktX49_isAtMost_5 : List UInt8 := dkwX49_isAtMost_5 ++ dktX49_isAtMost_6
def dkwX49_isAtMost_4 : List UInt8 := [22, 8, 97, 9, 148, 154, 0, 7, 4, 167, 0, 4, 3, 172, 22, 8, 22, 6, 105, 55, 14, 22, 8]
abbrev dktX49_isAtMost_4 : List UInt8 := dkwX49_isAtMost_4 ++ dktX49_isAtMost_5
def dkwX49_isAtMost_3 : List UInt8 := [22, 12, 28, 133, 16, 28, 121, 148, 155, 0, 24, 22, 12, 28, 133, 16, 28, 121, 148, 154, 0, 17, 22, 10]
abbrev dktX49_isAtMost_3 : List UInt8 := dkwX49_isAtMost_3 ++ dktX49_isAtMost_4
def dkwX49_isAtMost_2 : List UInt8 := [22, 4, 105, 22, 10, 16, 18, 123, 97, 55, 12, 22, 10, 20, 0, 71, 127, 55, 10, 29, 154, 0, 41]
abbrev dktX49_isAtMost_2 : List UInt8 := dkwX49_isAtMost_2 ++ dktX49_isAtMost_3
def dkwX49_isAtMost_1 : List UInt8 := [22, 4, 105, 22, 6, 105, 22, 8, 16, 18, 123, 97, 55, 10, 22, 8, 20, 0, 71, 127, 55, 8, 22, 4]
abbrev dktX49_isAtMost_1 : List UInt8 := dkwX49_isAtMost_1 ++ dktX49_isAtMost_2
def dkwX49_isAtMost_0 : List UInt8 := [30, 16, 18, 123, 55, 4, 30, 20, 0, 71, 127, 55, 6, 22, 6, 22, 6, 105, 55, 8, 20, 0, 73]
abbrev dktX49_isAtMost_0 : List UInt8 := dkwX49_isAtMost_0 ++ dktX49_isAtMost_1
theorem dksX49_isAtMost_0 : cX49_isAtMost.data.toList.drop 0 = dktX49_isAtMost_0 := by decide +kernel
theorem dksX49_isAtMost_1 : cX49_isAtMost.data.toList.drop 23 = dktX49_isAtMost_1 := dk_seg dksX49_isAtMost_0 23 rfl rfl
theorem dksX49_isAtMost_2 : cX49_isAtMost.data.toList.drop 47 = dktX49_isAtMost_2 := dk_seg dksX49_isAtMost_1 24 rfl rfl
theorem dksX49_isAtMost_3 : cX49_isAtMost.data.toList.drop 70 = dktX49_isAtMost_3 := dk_seg dksX49_isAtMost_2 23 rfl rfl
theorem dksX49_isAtMost_4 : cX49_isAtMost.data.toList.drop 94 = dktX49_isAtMost_4 := dk_seg dksX49_isAtMost_3 24 rfl rfl
theorem dksX49_isAtMost_5 : cX49_isAtMost.data.toList.drop 117 = dktX49_isAtMost_5 := dk_seg dksX49_isAtMost_4 23 rfl rfl
theorem dksX49_isAtMost_6 : cX49_isAtMost.data.toList.drop 141 = dktX49_isAtMost_6 := dk_seg dksX49_isAtMost_5 24 rfl rfl
theorem dksX49_isAtMost_7 : cX49_isAtMost.data.toList.drop 164 = dktX49_isAtMost_7 := dk_seg dksX49_isAtMost_6 23 rfl rfl
theorem dksX49_isAtMost_8 : cX49_isAtMost.data.toList.drop 188 = dktX49_isAtMost_8 := dk_seg dksX49_isAtMost_7 24 rfl rfl
theorem dksX49_isAtMost_9 : cX49_isAtMost.data.toList.drop 212 = dktX49_isAtMost_9 := dk_seg dksX49_isAtMost_8 24 rfl rfl
theorem dX49_isAtMost_0 : decode cX49_isAtMost 0 = .ok (.lload_n 0, 1) := dk_30 (dk_at dksX49_isAtMost_0 0 rfl rfl)
theorem dX49_isAtMost_1 : decode cX49_isAtMost 1 = .ok (.bipush 18, 2) := dk_16 18 (dk_at dksX49_isAtMost_0 1 rfl rfl)
theorem dX49_isAtMost_3 : decode cX49_isAtMost 3 = .ok (.lshr, 1) := dk_123 (dk_at dksX49_isAtMost_0 3 rfl rfl)
theorem dX49_isAtMost_4 : decode cX49_isAtMost 4 = .ok (.lstore 4, 2) := dk_55 4 (dk_at dksX49_isAtMost_0 4 rfl rfl)
theorem dX49_isAtMost_6 : decode cX49_isAtMost 6 = .ok (.lload_n 0, 1) := dk_30 (dk_at dksX49_isAtMost_0 6 rfl rfl)
theorem dX49_isAtMost_7 : decode cX49_isAtMost 7 = .ok (.ldc2_w 71, 3) := dk_20 0 71 (dk_at dksX49_isAtMost_0 7 rfl rfl)
theorem dX49_isAtMost_10 : decode cX49_isAtMost 10 = .ok (.land, 1) := dk_127 (dk_at dksX49_isAtMost_0 10 rfl rfl)
theorem dX49_isAtMost_11 : decode cX49_isAtMost 11 = .ok (.lstore 6, 2) := dk_55 6 (dk_at dksX49_isAtMost_0 11 rfl rfl)
theorem dX49_isAtMost_13 : decode cX49_isAtMost 13 = .ok (.lload 6, 2) := dk_22 6 (dk_at dksX49_isAtMost_0 13 rfl rfl)
theorem dX49_isAtMost_15 : decode cX49_isAtMost 15 = .ok (.lload 6, 2) := dk_22 6 (dk_at dksX49_isAtMost_0 15 rfl rfl)
theorem dX49_isAtMost_17 : decode cX49_isAtMost 17 = .ok (.lmul, 1) := dk_105 (dk_at dksX49_isAtMost_0 17 rfl rfl)
theorem dX49_isAtMost_18 : decode cX49_isAtMost 18 = .ok (.lstore 8, 2) := dk_55 8 (dk_at dksX49_isAtMost_0 18 rfl rfl)
theorem dX49_isAtMost_20 : decode cX49_isAtMost 20 = .ok (.ldc2_w 73, 3) := dk_20 0 73 (dk_at dksX49_isAtMost_0 20 rfl rfl)
theorem dX49_isAtMost_23 : decode cX49_isAtMost 23 = .ok (.lload 4, 2) := dk_22 4 (dk_at dksX49_isAtMost_1 0 rfl rfl)
theorem dX49_isAtMost_25 : decode cX49_isAtMost 25 = .ok (.lmul, 1) := dk_105 (dk_at dksX49_isAtMost_1 2 rfl rfl)
theorem dX49_isAtMost_26 : decode cX49_isAtMost 26 = .ok (.lload 6, 2) := dk_22 6 (dk_at dksX49_isAtMost_1 3 rfl rfl)
theorem dX49_isAtMost_28 : decode cX49_isAtMost 28 = .ok (.lmul, 1) := dk_105 (dk_at dksX49_isAtMost_1 5 rfl rfl)
theorem dX49_isAtMost_29 : decode cX49_isAtMost 29 = .ok (.lload 8, 2) := dk_22 8 (dk_at dksX49_isAtMost_1 6 rfl rfl)
theorem dX49_isAtMost_31 : decode cX49_isAtMost 31 = .ok (.bipush 18, 2) := dk_16 18 (dk_at dksX49_isAtMost_1 8 rfl rfl)
theorem dX49_isAtMost_33 : decode cX49_isAtMost 33 = .ok (.lshr, 1) := dk_123 (dk_at dksX49_isAtMost_1 10 rfl rfl)
theorem dX49_isAtMost_34 : decode cX49_isAtMost 34 = .ok (.ladd, 1) := dk_97 (dk_at dksX49_isAtMost_1 11 rfl rfl)
theorem dX49_isAtMost_35 : decode cX49_isAtMost 35 = .ok (.lstore 10, 2) := dk_55 10 (dk_at dksX49_isAtMost_1 12 rfl rfl)
theorem dX49_isAtMost_37 : decode cX49_isAtMost 37 = .ok (.lload 8, 2) := dk_22 8 (dk_at dksX49_isAtMost_1 14 rfl rfl)
theorem dX49_isAtMost_39 : decode cX49_isAtMost 39 = .ok (.ldc2_w 71, 3) := dk_20 0 71 (dk_at dksX49_isAtMost_1 16 rfl rfl)
theorem dX49_isAtMost_42 : decode cX49_isAtMost 42 = .ok (.land, 1) := dk_127 (dk_at dksX49_isAtMost_1 19 rfl rfl)
theorem dX49_isAtMost_43 : decode cX49_isAtMost 43 = .ok (.lstore 8, 2) := dk_55 8 (dk_at dksX49_isAtMost_1 20 rfl rfl)
theorem dX49_isAtMost_45 : decode cX49_isAtMost 45 = .ok (.lload 4, 2) := dk_22 4 (dk_at dksX49_isAtMost_1 22 rfl rfl)
theorem dX49_isAtMost_47 : decode cX49_isAtMost 47 = .ok (.lload 4, 2) := dk_22 4 (dk_at dksX49_isAtMost_2 0 rfl rfl)
theorem dX49_isAtMost_49 : decode cX49_isAtMost 49 = .ok (.lmul, 1) := dk_105 (dk_at dksX49_isAtMost_2 2 rfl rfl)
theorem dX49_isAtMost_50 : decode cX49_isAtMost 50 = .ok (.lload 10, 2) := dk_22 10 (dk_at dksX49_isAtMost_2 3 rfl rfl)
theorem dX49_isAtMost_52 : decode cX49_isAtMost 52 = .ok (.bipush 18, 2) := dk_16 18 (dk_at dksX49_isAtMost_2 5 rfl rfl)
theorem dX49_isAtMost_54 : decode cX49_isAtMost 54 = .ok (.lshr, 1) := dk_123 (dk_at dksX49_isAtMost_2 7 rfl rfl)
theorem dX49_isAtMost_55 : decode cX49_isAtMost 55 = .ok (.ladd, 1) := dk_97 (dk_at dksX49_isAtMost_2 8 rfl rfl)
theorem dX49_isAtMost_56 : decode cX49_isAtMost 56 = .ok (.lstore 12, 2) := dk_55 12 (dk_at dksX49_isAtMost_2 9 rfl rfl)
theorem dX49_isAtMost_58 : decode cX49_isAtMost 58 = .ok (.lload 10, 2) := dk_22 10 (dk_at dksX49_isAtMost_2 11 rfl rfl)
theorem dX49_isAtMost_60 : decode cX49_isAtMost 60 = .ok (.ldc2_w 71, 3) := dk_20 0 71 (dk_at dksX49_isAtMost_2 13 rfl rfl)
theorem dX49_isAtMost_63 : decode cX49_isAtMost 63 = .ok (.land, 1) := dk_127 (dk_at dksX49_isAtMost_2 16 rfl rfl)
theorem dX49_isAtMost_64 : decode cX49_isAtMost 64 = .ok (.lstore 10, 2) := dk_55 10 (dk_at dksX49_isAtMost_2 17 rfl rfl)
theorem dX49_isAtMost_66 : decode cX49_isAtMost 66 = .ok (.iload_n 3, 1) := dk_29 (dk_at dksX49_isAtMost_2 19 rfl rfl)
theorem dX49_isAtMost_67 : decode cX49_isAtMost 67 = .ok (.ifCond .ne 41, 3) := dk_154 0 41 (dk_at dksX49_isAtMost_2 20 rfl rfl)
theorem dX49_isAtMost_70 : decode cX49_isAtMost 70 = .ok (.lload 12, 2) := dk_22 12 (dk_at dksX49_isAtMost_3 0 rfl rfl)
theorem dX49_isAtMost_72 : decode cX49_isAtMost 72 = .ok (.iload_n 2, 1) := dk_28 (dk_at dksX49_isAtMost_3 2 rfl rfl)
theorem dX49_isAtMost_73 : decode cX49_isAtMost 73 = .ok (.i2l, 1) := dk_133 (dk_at dksX49_isAtMost_3 3 rfl rfl)
theorem dX49_isAtMost_74 : decode cX49_isAtMost 74 = .ok (.bipush 28, 2) := dk_16 28 (dk_at dksX49_isAtMost_3 4 rfl rfl)
theorem dX49_isAtMost_76 : decode cX49_isAtMost 76 = .ok (.lshl, 1) := dk_121 (dk_at dksX49_isAtMost_3 6 rfl rfl)
theorem dX49_isAtMost_77 : decode cX49_isAtMost 77 = .ok (.lcmp, 1) := dk_148 (dk_at dksX49_isAtMost_3 7 rfl rfl)
theorem dX49_isAtMost_78 : decode cX49_isAtMost 78 = .ok (.ifCond .lt 24, 3) := dk_155 0 24 (dk_at dksX49_isAtMost_3 8 rfl rfl)
theorem dX49_isAtMost_81 : decode cX49_isAtMost 81 = .ok (.lload 12, 2) := dk_22 12 (dk_at dksX49_isAtMost_3 11 rfl rfl)
theorem dX49_isAtMost_83 : decode cX49_isAtMost 83 = .ok (.iload_n 2, 1) := dk_28 (dk_at dksX49_isAtMost_3 13 rfl rfl)
theorem dX49_isAtMost_84 : decode cX49_isAtMost 84 = .ok (.i2l, 1) := dk_133 (dk_at dksX49_isAtMost_3 14 rfl rfl)
theorem dX49_isAtMost_85 : decode cX49_isAtMost 85 = .ok (.bipush 28, 2) := dk_16 28 (dk_at dksX49_isAtMost_3 15 rfl rfl)
theorem dX49_isAtMost_87 : decode cX49_isAtMost 87 = .ok (.lshl, 1) := dk_121 (dk_at dksX49_isAtMost_3 17 rfl rfl)
theorem dX49_isAtMost_88 : decode cX49_isAtMost 88 = .ok (.lcmp, 1) := dk_148 (dk_at dksX49_isAtMost_3 18 rfl rfl)
theorem dX49_isAtMost_89 : decode cX49_isAtMost 89 = .ok (.ifCond .ne 17, 3) := dk_154 0 17 (dk_at dksX49_isAtMost_3 19 rfl rfl)
theorem dX49_isAtMost_92 : decode cX49_isAtMost 92 = .ok (.lload 10, 2) := dk_22 10 (dk_at dksX49_isAtMost_3 22 rfl rfl)
theorem dX49_isAtMost_94 : decode cX49_isAtMost 94 = .ok (.lload 8, 2) := dk_22 8 (dk_at dksX49_isAtMost_4 0 rfl rfl)
theorem dX49_isAtMost_96 : decode cX49_isAtMost 96 = .ok (.ladd, 1) := dk_97 (dk_at dksX49_isAtMost_4 2 rfl rfl)
theorem dX49_isAtMost_97 : decode cX49_isAtMost 97 = .ok (.lconst 0, 1) := dk_9 (dk_at dksX49_isAtMost_4 3 rfl rfl)
theorem dX49_isAtMost_98 : decode cX49_isAtMost 98 = .ok (.lcmp, 1) := dk_148 (dk_at dksX49_isAtMost_4 4 rfl rfl)
theorem dX49_isAtMost_99 : decode cX49_isAtMost 99 = .ok (.ifCond .ne 7, 3) := dk_154 0 7 (dk_at dksX49_isAtMost_4 5 rfl rfl)
theorem dX49_isAtMost_102 : decode cX49_isAtMost 102 = .ok (.iconst 1, 1) := dk_4 (dk_at dksX49_isAtMost_4 8 rfl rfl)
theorem dX49_isAtMost_103 : decode cX49_isAtMost 103 = .ok (.goto 4, 3) := dk_167 0 4 (dk_at dksX49_isAtMost_4 9 rfl rfl)
theorem dX49_isAtMost_106 : decode cX49_isAtMost 106 = .ok (.iconst 0, 1) := dk_3 (dk_at dksX49_isAtMost_4 12 rfl rfl)
theorem dX49_isAtMost_107 : decode cX49_isAtMost 107 = .ok (.ireturn, 1) := dk_172 (dk_at dksX49_isAtMost_4 13 rfl rfl)
theorem dX49_isAtMost_108 : decode cX49_isAtMost 108 = .ok (.lload 8, 2) := dk_22 8 (dk_at dksX49_isAtMost_4 14 rfl rfl)
theorem dX49_isAtMost_110 : decode cX49_isAtMost 110 = .ok (.lload 6, 2) := dk_22 6 (dk_at dksX49_isAtMost_4 16 rfl rfl)
theorem dX49_isAtMost_112 : decode cX49_isAtMost 112 = .ok (.lmul, 1) := dk_105 (dk_at dksX49_isAtMost_4 18 rfl rfl)
theorem dX49_isAtMost_113 : decode cX49_isAtMost 113 = .ok (.lstore 14, 2) := dk_55 14 (dk_at dksX49_isAtMost_4 19 rfl rfl)
theorem dX49_isAtMost_115 : decode cX49_isAtMost 115 = .ok (.lload 8, 2) := dk_22 8 (dk_at dksX49_isAtMost_4 21 rfl rfl)
theorem dX49_isAtMost_117 : decode cX49_isAtMost 117 = .ok (.lload 4, 2) := dk_22 4 (dk_at dksX49_isAtMost_5 0 rfl rfl)
theorem dX49_isAtMost_119 : decode cX49_isAtMost 119 = .ok (.lmul, 1) := dk_105 (dk_at dksX49_isAtMost_5 2 rfl rfl)
theorem dX49_isAtMost_120 : decode cX49_isAtMost 120 = .ok (.lload 10, 2) := dk_22 10 (dk_at dksX49_isAtMost_5 3 rfl rfl)
theorem dX49_isAtMost_122 : decode cX49_isAtMost 122 = .ok (.lload 6, 2) := dk_22 6 (dk_at dksX49_isAtMost_5 5 rfl rfl)
theorem dX49_isAtMost_124 : decode cX49_isAtMost 124 = .ok (.lmul, 1) := dk_105 (dk_at dksX49_isAtMost_5 7 rfl rfl)
theorem dX49_isAtMost_125 : decode cX49_isAtMost 125 = .ok (.ladd, 1) := dk_97 (dk_at dksX49_isAtMost_5 8 rfl rfl)
theorem dX49_isAtMost_126 : decode cX49_isAtMost 126 = .ok (.lload 14, 2) := dk_22 14 (dk_at dksX49_isAtMost_5 9 rfl rfl)
theorem dX49_isAtMost_128 : decode cX49_isAtMost 128 = .ok (.bipush 18, 2) := dk_16 18 (dk_at dksX49_isAtMost_5 11 rfl rfl)
theorem dX49_isAtMost_130 : decode cX49_isAtMost 130 = .ok (.lshr, 1) := dk_123 (dk_at dksX49_isAtMost_5 13 rfl rfl)
theorem dX49_isAtMost_131 : decode cX49_isAtMost 131 = .ok (.ladd, 1) := dk_97 (dk_at dksX49_isAtMost_5 14 rfl rfl)
theorem dX49_isAtMost_132 : decode cX49_isAtMost 132 = .ok (.lstore 16, 2) := dk_55 16 (dk_at dksX49_isAtMost_5 15 rfl rfl)
theorem dX49_isAtMost_134 : decode cX49_isAtMost 134 = .ok (.lload 10, 2) := dk_22 10 (dk_at dksX49_isAtMost_5 17 rfl rfl)
theorem dX49_isAtMost_136 : decode cX49_isAtMost 136 = .ok (.lload 4, 2) := dk_22 4 (dk_at dksX49_isAtMost_5 19 rfl rfl)
theorem dX49_isAtMost_138 : decode cX49_isAtMost 138 = .ok (.lmul, 1) := dk_105 (dk_at dksX49_isAtMost_5 21 rfl rfl)
theorem dX49_isAtMost_139 : decode cX49_isAtMost 139 = .ok (.lload 12, 2) := dk_22 12 (dk_at dksX49_isAtMost_5 22 rfl rfl)
theorem dX49_isAtMost_141 : decode cX49_isAtMost 141 = .ok (.lload 6, 2) := dk_22 6 (dk_at dksX49_isAtMost_6 0 rfl rfl)
theorem dX49_isAtMost_143 : decode cX49_isAtMost 143 = .ok (.lmul, 1) := dk_105 (dk_at dksX49_isAtMost_6 2 rfl rfl)
theorem dX49_isAtMost_144 : decode cX49_isAtMost 144 = .ok (.ladd, 1) := dk_97 (dk_at dksX49_isAtMost_6 3 rfl rfl)
theorem dX49_isAtMost_145 : decode cX49_isAtMost 145 = .ok (.lload 16, 2) := dk_22 16 (dk_at dksX49_isAtMost_6 4 rfl rfl)
theorem dX49_isAtMost_147 : decode cX49_isAtMost 147 = .ok (.bipush 18, 2) := dk_16 18 (dk_at dksX49_isAtMost_6 6 rfl rfl)
theorem dX49_isAtMost_149 : decode cX49_isAtMost 149 = .ok (.lshr, 1) := dk_123 (dk_at dksX49_isAtMost_6 8 rfl rfl)
theorem dX49_isAtMost_150 : decode cX49_isAtMost 150 = .ok (.ladd, 1) := dk_97 (dk_at dksX49_isAtMost_6 9 rfl rfl)
theorem dX49_isAtMost_151 : decode cX49_isAtMost 151 = .ok (.lstore 18, 2) := dk_55 18 (dk_at dksX49_isAtMost_6 10 rfl rfl)
theorem dX49_isAtMost_153 : decode cX49_isAtMost 153 = .ok (.lload 12, 2) := dk_22 12 (dk_at dksX49_isAtMost_6 12 rfl rfl)
theorem dX49_isAtMost_155 : decode cX49_isAtMost 155 = .ok (.lload 4, 2) := dk_22 4 (dk_at dksX49_isAtMost_6 14 rfl rfl)
theorem dX49_isAtMost_157 : decode cX49_isAtMost 157 = .ok (.lmul, 1) := dk_105 (dk_at dksX49_isAtMost_6 16 rfl rfl)
theorem dX49_isAtMost_158 : decode cX49_isAtMost 158 = .ok (.lload 18, 2) := dk_22 18 (dk_at dksX49_isAtMost_6 17 rfl rfl)
theorem dX49_isAtMost_160 : decode cX49_isAtMost 160 = .ok (.bipush 18, 2) := dk_16 18 (dk_at dksX49_isAtMost_6 19 rfl rfl)
theorem dX49_isAtMost_162 : decode cX49_isAtMost 162 = .ok (.lshr, 1) := dk_123 (dk_at dksX49_isAtMost_6 21 rfl rfl)
theorem dX49_isAtMost_163 : decode cX49_isAtMost 163 = .ok (.ladd, 1) := dk_97 (dk_at dksX49_isAtMost_6 22 rfl rfl)
theorem dX49_isAtMost_164 : decode cX49_isAtMost 164 = .ok (.lstore 20, 2) := dk_55 20 (dk_at dksX49_isAtMost_7 0 rfl rfl)
theorem dX49_isAtMost_166 : decode cX49_isAtMost 166 = .ok (.lload 14, 2) := dk_22 14 (dk_at dksX49_isAtMost_7 2 rfl rfl)
theorem dX49_isAtMost_168 : decode cX49_isAtMost 168 = .ok (.ldc2_w 71, 3) := dk_20 0 71 (dk_at dksX49_isAtMost_7 4 rfl rfl)
theorem dX49_isAtMost_171 : decode cX49_isAtMost 171 = .ok (.land, 1) := dk_127 (dk_at dksX49_isAtMost_7 7 rfl rfl)
theorem dX49_isAtMost_172 : decode cX49_isAtMost 172 = .ok (.lload 16, 2) := dk_22 16 (dk_at dksX49_isAtMost_7 8 rfl rfl)
theorem dX49_isAtMost_174 : decode cX49_isAtMost 174 = .ok (.ldc2_w 71, 3) := dk_20 0 71 (dk_at dksX49_isAtMost_7 10 rfl rfl)
theorem dX49_isAtMost_177 : decode cX49_isAtMost 177 = .ok (.land, 1) := dk_127 (dk_at dksX49_isAtMost_7 13 rfl rfl)
theorem dX49_isAtMost_178 : decode cX49_isAtMost 178 = .ok (.ladd, 1) := dk_97 (dk_at dksX49_isAtMost_7 14 rfl rfl)
theorem dX49_isAtMost_179 : decode cX49_isAtMost 179 = .ok (.lload 18, 2) := dk_22 18 (dk_at dksX49_isAtMost_7 15 rfl rfl)
theorem dX49_isAtMost_181 : decode cX49_isAtMost 181 = .ok (.ldc2_w 71, 3) := dk_20 0 71 (dk_at dksX49_isAtMost_7 17 rfl rfl)
theorem dX49_isAtMost_184 : decode cX49_isAtMost 184 = .ok (.land, 1) := dk_127 (dk_at dksX49_isAtMost_7 20 rfl rfl)
theorem dX49_isAtMost_185 : decode cX49_isAtMost 185 = .ok (.ladd, 1) := dk_97 (dk_at dksX49_isAtMost_7 21 rfl rfl)
theorem dX49_isAtMost_186 : decode cX49_isAtMost 186 = .ok (.lstore 22, 2) := dk_55 22 (dk_at dksX49_isAtMost_7 22 rfl rfl)
theorem dX49_isAtMost_188 : decode cX49_isAtMost 188 = .ok (.lload 20, 2) := dk_22 20 (dk_at dksX49_isAtMost_8 0 rfl rfl)
theorem dX49_isAtMost_190 : decode cX49_isAtMost 190 = .ok (.iload_n 2, 1) := dk_28 (dk_at dksX49_isAtMost_8 2 rfl rfl)
theorem dX49_isAtMost_191 : decode cX49_isAtMost 191 = .ok (.i2l, 1) := dk_133 (dk_at dksX49_isAtMost_8 3 rfl rfl)
theorem dX49_isAtMost_192 : decode cX49_isAtMost 192 = .ok (.bipush 42, 2) := dk_16 42 (dk_at dksX49_isAtMost_8 4 rfl rfl)
theorem dX49_isAtMost_194 : decode cX49_isAtMost 194 = .ok (.lshl, 1) := dk_121 (dk_at dksX49_isAtMost_8 6 rfl rfl)
theorem dX49_isAtMost_195 : decode cX49_isAtMost 195 = .ok (.lcmp, 1) := dk_148 (dk_at dksX49_isAtMost_8 7 rfl rfl)
theorem dX49_isAtMost_196 : decode cX49_isAtMost 196 = .ok (.ifCond .lt 21, 3) := dk_155 0 21 (dk_at dksX49_isAtMost_8 8 rfl rfl)
theorem dX49_isAtMost_199 : decode cX49_isAtMost 199 = .ok (.lload 20, 2) := dk_22 20 (dk_at dksX49_isAtMost_8 11 rfl rfl)
theorem dX49_isAtMost_201 : decode cX49_isAtMost 201 = .ok (.iload_n 2, 1) := dk_28 (dk_at dksX49_isAtMost_8 13 rfl rfl)
theorem dX49_isAtMost_202 : decode cX49_isAtMost 202 = .ok (.i2l, 1) := dk_133 (dk_at dksX49_isAtMost_8 14 rfl rfl)
theorem dX49_isAtMost_203 : decode cX49_isAtMost 203 = .ok (.bipush 42, 2) := dk_16 42 (dk_at dksX49_isAtMost_8 15 rfl rfl)
theorem dX49_isAtMost_205 : decode cX49_isAtMost 205 = .ok (.lshl, 1) := dk_121 (dk_at dksX49_isAtMost_8 17 rfl rfl)
theorem dX49_isAtMost_206 : decode cX49_isAtMost 206 = .ok (.lcmp, 1) := dk_148 (dk_at dksX49_isAtMost_8 18 rfl rfl)
theorem dX49_isAtMost_207 : decode cX49_isAtMost 207 = .ok (.ifCond .ne 14, 3) := dk_154 0 14 (dk_at dksX49_isAtMost_8 19 rfl rfl)
theorem dX49_isAtMost_210 : decode cX49_isAtMost 210 = .ok (.lload 22, 2) := dk_22 22 (dk_at dksX49_isAtMost_8 22 rfl rfl)
theorem dX49_isAtMost_212 : decode cX49_isAtMost 212 = .ok (.lconst 0, 1) := dk_9 (dk_at dksX49_isAtMost_9 0 rfl rfl)
theorem dX49_isAtMost_213 : decode cX49_isAtMost 213 = .ok (.lcmp, 1) := dk_148 (dk_at dksX49_isAtMost_9 1 rfl rfl)
theorem dX49_isAtMost_214 : decode cX49_isAtMost 214 = .ok (.ifCond .ne 7, 3) := dk_154 0 7 (dk_at dksX49_isAtMost_9 2 rfl rfl)
theorem dX49_isAtMost_217 : decode cX49_isAtMost 217 = .ok (.iconst 1, 1) := dk_4 (dk_at dksX49_isAtMost_9 5 rfl rfl)
theorem dX49_isAtMost_218 : decode cX49_isAtMost 218 = .ok (.goto 4, 3) := dk_167 0 4 (dk_at dksX49_isAtMost_9 6 rfl rfl)
theorem dX49_isAtMost_221 : decode cX49_isAtMost 221 = .ok (.iconst 0, 1) := dk_3 (dk_at dksX49_isAtMost_9 9 rfl rfl)
theorem dX49_isAtMost_222 : decode cX49_isAtMost 222 = .ok (.ireturn, 1) := dk_172 (dk_at dksX49_isAtMost_9 10 rfl rfl)
abbrev cX49_tareOf : ByteArray := prog_65_method_18_code
def yX49_tareOf : MethodName := ⟨RX49, "tareOf", "(II)J"⟩
def dkwX49_tareOf_4 : List UInt8 := [180, 0, 22, 29, 46, 133, 173]
abbrev dktX49_tareOf_4 : List UInt8 := dkwX49_tareOf_4 ++ []
def dkwX49_tareOf_3 : List UInt8 := [21, 4, 167, 0, 4, 29, 62, 132, 4, 1, 167, 255, 183, 29, 156, 0, 9, 20, 0, 136, 167, 0, 10, 42]
abbrev dktX49_tareOf_3 : List UInt8 := dkwX49_tareOf_3 ++ dktX49_tareOf_4
def dkwX49_tareOf_2 : List UInt8 := [153, 0, 28, 29, 155, 0, 19, 42, 180, 0, 16, 21, 4, 46, 42, 180, 0, 16, 29, 46, 164, 0, 8]
abbrev dktX49_tareOf_2 : List UInt8 := dkwX49_tareOf_2 ++ dktX49_tareOf_3
def dkwX49_tareOf_1 : List UInt8 := [160, 0, 18, 42, 180, 0, 16, 21, 4, 46, 28, 163, 0, 7, 4, 167, 0, 4, 3, 54, 5, 21, 5]
abbrev dktX49_tareOf_1 : List UInt8 := dkwX49_tareOf_1 ++ dktX49_tareOf_2
def dkwX49_tareOf_0 : List UInt8 := [2, 62, 3, 54, 4, 21, 4, 42, 180, 0, 133, 162, 0, 70, 42, 180, 0, 19, 21, 4, 46, 27]
abbrev dktX49_tareOf_0 : List UInt8 := dkwX49_tareOf_0 ++ dktX49_tareOf_1
theorem dksX49_tareOf_0 : cX49_tareOf.data.toList.drop 0 = dktX49_tareOf_0 := by decide +kernel
theorem dksX49_tareOf_1 : cX49_tareOf.data.toList.drop 22 = dktX49_tareOf_1 := dk_seg dksX49_tareOf_0 22 rfl rfl
theorem dksX49_tareOf_2 : cX49_tareOf.data.toList.drop 45 = dktX49_tareOf_2 := dk_seg dksX49_tareOf_1 23 rfl rfl
theorem dksX49_tareOf_3 : cX49_tareOf.data.toList.drop 68 = dktX49_tareOf_3 := dk_seg dksX49_tareOf_2 23 rfl rfl
theorem dksX49_tareOf_4 : cX49_tareOf.data.toList.drop 92 = dktX49_tareOf_4 := dk_seg dksX49_tareOf_3 24 rfl rfl
theorem dX49_tareOf_0 : decode cX49_tareOf 0 = .ok (.iconst (-1), 1) := dk_2 (dk_at dksX49_tareOf_0 0 rfl rfl)
theorem dX49_tareOf_1 : decode cX49_tareOf 1 = .ok (.istore_n 3, 1) := dk_62 (dk_at dksX49_tareOf_0 1 rfl rfl)
theorem dX49_tareOf_2 : decode cX49_tareOf 2 = .ok (.iconst 0, 1) := dk_3 (dk_at dksX49_tareOf_0 2 rfl rfl)
theorem dX49_tareOf_3 : decode cX49_tareOf 3 = .ok (.istore 4, 2) := dk_54 4 (dk_at dksX49_tareOf_0 3 rfl rfl)
theorem dX49_tareOf_5 : decode cX49_tareOf 5 = .ok (.iload 4, 2) := dk_21 4 (dk_at dksX49_tareOf_0 5 rfl rfl)
theorem dX49_tareOf_7 : decode cX49_tareOf 7 = .ok (.aload_n 0, 1) := dk_42 (dk_at dksX49_tareOf_0 7 rfl rfl)
theorem dX49_tareOf_8 : decode cX49_tareOf 8 = .ok (.getfield 133, 3) := dk_180 0 133 (dk_at dksX49_tareOf_0 8 rfl rfl)
theorem dX49_tareOf_11 : decode cX49_tareOf 11 = .ok (.if_icmp .ge 70, 3) := dk_162 0 70 (dk_at dksX49_tareOf_0 11 rfl rfl)
theorem dX49_tareOf_14 : decode cX49_tareOf 14 = .ok (.aload_n 0, 1) := dk_42 (dk_at dksX49_tareOf_0 14 rfl rfl)
theorem dX49_tareOf_15 : decode cX49_tareOf 15 = .ok (.getfield 19, 3) := dk_180 0 19 (dk_at dksX49_tareOf_0 15 rfl rfl)
theorem dX49_tareOf_18 : decode cX49_tareOf 18 = .ok (.iload 4, 2) := dk_21 4 (dk_at dksX49_tareOf_0 18 rfl rfl)
theorem dX49_tareOf_20 : decode cX49_tareOf 20 = .ok (.iaload, 1) := dk_46 (dk_at dksX49_tareOf_0 20 rfl rfl)
theorem dX49_tareOf_21 : decode cX49_tareOf 21 = .ok (.iload_n 1, 1) := dk_27 (dk_at dksX49_tareOf_0 21 rfl rfl)
theorem dX49_tareOf_22 : decode cX49_tareOf 22 = .ok (.if_icmp .ne 18, 3) := dk_160 0 18 (dk_at dksX49_tareOf_1 0 rfl rfl)
theorem dX49_tareOf_25 : decode cX49_tareOf 25 = .ok (.aload_n 0, 1) := dk_42 (dk_at dksX49_tareOf_1 3 rfl rfl)
theorem dX49_tareOf_26 : decode cX49_tareOf 26 = .ok (.getfield 16, 3) := dk_180 0 16 (dk_at dksX49_tareOf_1 4 rfl rfl)
theorem dX49_tareOf_29 : decode cX49_tareOf 29 = .ok (.iload 4, 2) := dk_21 4 (dk_at dksX49_tareOf_1 7 rfl rfl)
theorem dX49_tareOf_31 : decode cX49_tareOf 31 = .ok (.iaload, 1) := dk_46 (dk_at dksX49_tareOf_1 9 rfl rfl)
theorem dX49_tareOf_32 : decode cX49_tareOf 32 = .ok (.iload_n 2, 1) := dk_28 (dk_at dksX49_tareOf_1 10 rfl rfl)
theorem dX49_tareOf_33 : decode cX49_tareOf 33 = .ok (.if_icmp .gt 7, 3) := dk_163 0 7 (dk_at dksX49_tareOf_1 11 rfl rfl)
theorem dX49_tareOf_36 : decode cX49_tareOf 36 = .ok (.iconst 1, 1) := dk_4 (dk_at dksX49_tareOf_1 14 rfl rfl)
theorem dX49_tareOf_37 : decode cX49_tareOf 37 = .ok (.goto 4, 3) := dk_167 0 4 (dk_at dksX49_tareOf_1 15 rfl rfl)
theorem dX49_tareOf_40 : decode cX49_tareOf 40 = .ok (.iconst 0, 1) := dk_3 (dk_at dksX49_tareOf_1 18 rfl rfl)
theorem dX49_tareOf_41 : decode cX49_tareOf 41 = .ok (.istore 5, 2) := dk_54 5 (dk_at dksX49_tareOf_1 19 rfl rfl)
theorem dX49_tareOf_43 : decode cX49_tareOf 43 = .ok (.iload 5, 2) := dk_21 5 (dk_at dksX49_tareOf_1 21 rfl rfl)
theorem dX49_tareOf_45 : decode cX49_tareOf 45 = .ok (.ifCond .eq 28, 3) := dk_153 0 28 (dk_at dksX49_tareOf_2 0 rfl rfl)
theorem dX49_tareOf_48 : decode cX49_tareOf 48 = .ok (.iload_n 3, 1) := dk_29 (dk_at dksX49_tareOf_2 3 rfl rfl)
theorem dX49_tareOf_49 : decode cX49_tareOf 49 = .ok (.ifCond .lt 19, 3) := dk_155 0 19 (dk_at dksX49_tareOf_2 4 rfl rfl)
theorem dX49_tareOf_52 : decode cX49_tareOf 52 = .ok (.aload_n 0, 1) := dk_42 (dk_at dksX49_tareOf_2 7 rfl rfl)
theorem dX49_tareOf_53 : decode cX49_tareOf 53 = .ok (.getfield 16, 3) := dk_180 0 16 (dk_at dksX49_tareOf_2 8 rfl rfl)
theorem dX49_tareOf_56 : decode cX49_tareOf 56 = .ok (.iload 4, 2) := dk_21 4 (dk_at dksX49_tareOf_2 11 rfl rfl)
theorem dX49_tareOf_58 : decode cX49_tareOf 58 = .ok (.iaload, 1) := dk_46 (dk_at dksX49_tareOf_2 13 rfl rfl)
theorem dX49_tareOf_59 : decode cX49_tareOf 59 = .ok (.aload_n 0, 1) := dk_42 (dk_at dksX49_tareOf_2 14 rfl rfl)
theorem dX49_tareOf_60 : decode cX49_tareOf 60 = .ok (.getfield 16, 3) := dk_180 0 16 (dk_at dksX49_tareOf_2 15 rfl rfl)
theorem dX49_tareOf_63 : decode cX49_tareOf 63 = .ok (.iload_n 3, 1) := dk_29 (dk_at dksX49_tareOf_2 18 rfl rfl)
theorem dX49_tareOf_64 : decode cX49_tareOf 64 = .ok (.iaload, 1) := dk_46 (dk_at dksX49_tareOf_2 19 rfl rfl)
theorem dX49_tareOf_65 : decode cX49_tareOf 65 = .ok (.if_icmp .le 8, 3) := dk_164 0 8 (dk_at dksX49_tareOf_2 20 rfl rfl)
theorem dX49_tareOf_68 : decode cX49_tareOf 68 = .ok (.iload 4, 2) := dk_21 4 (dk_at dksX49_tareOf_3 0 rfl rfl)
theorem dX49_tareOf_70 : decode cX49_tareOf 70 = .ok (.goto 4, 3) := dk_167 0 4 (dk_at dksX49_tareOf_3 2 rfl rfl)
theorem dX49_tareOf_73 : decode cX49_tareOf 73 = .ok (.iload_n 3, 1) := dk_29 (dk_at dksX49_tareOf_3 5 rfl rfl)
theorem dX49_tareOf_74 : decode cX49_tareOf 74 = .ok (.istore_n 3, 1) := dk_62 (dk_at dksX49_tareOf_3 6 rfl rfl)
theorem dX49_tareOf_75 : decode cX49_tareOf 75 = .ok (.iinc 4 1, 3) := dk_132 4 1 (dk_at dksX49_tareOf_3 7 rfl rfl)
theorem dX49_tareOf_78 : decode cX49_tareOf 78 = .ok (.goto (-73), 3) := dk_167 255 183 (dk_at dksX49_tareOf_3 10 rfl rfl)
theorem dX49_tareOf_81 : decode cX49_tareOf 81 = .ok (.iload_n 3, 1) := dk_29 (dk_at dksX49_tareOf_3 13 rfl rfl)
theorem dX49_tareOf_82 : decode cX49_tareOf 82 = .ok (.ifCond .ge 9, 3) := dk_156 0 9 (dk_at dksX49_tareOf_3 14 rfl rfl)
theorem dX49_tareOf_85 : decode cX49_tareOf 85 = .ok (.ldc2_w 136, 3) := dk_20 0 136 (dk_at dksX49_tareOf_3 17 rfl rfl)
theorem dX49_tareOf_88 : decode cX49_tareOf 88 = .ok (.goto 10, 3) := dk_167 0 10 (dk_at dksX49_tareOf_3 20 rfl rfl)
theorem dX49_tareOf_91 : decode cX49_tareOf 91 = .ok (.aload_n 0, 1) := dk_42 (dk_at dksX49_tareOf_3 23 rfl rfl)
theorem dX49_tareOf_92 : decode cX49_tareOf 92 = .ok (.getfield 22, 3) := dk_180 0 22 (dk_at dksX49_tareOf_4 0 rfl rfl)
theorem dX49_tareOf_95 : decode cX49_tareOf 95 = .ok (.iload_n 3, 1) := dk_29 (dk_at dksX49_tareOf_4 3 rfl rfl)
theorem dX49_tareOf_96 : decode cX49_tareOf 96 = .ok (.iaload, 1) := dk_46 (dk_at dksX49_tareOf_4 4 rfl rfl)
theorem dX49_tareOf_97 : decode cX49_tareOf 97 = .ok (.i2l, 1) := dk_133 (dk_at dksX49_tareOf_4 5 rfl rfl)
theorem dX49_tareOf_98 : decode cX49_tareOf 98 = .ok (.lreturn, 1) := dk_173 (dk_at dksX49_tareOf_4 6 rfl rfl)
abbrev cX49_ticket : ByteArray := prog_65_method_19_code
def yX49_ticket : MethodName := ⟨RX49, "ticket", "(IIJJJI)I"⟩
def dkwX49_ticket_16 : List UInt8 := [181, 0, 112, 42, 180, 0, 112, 4, 100, 172]
abbrev dktX49_ticket_16 : List UInt8 := dkwX49_ticket_16 ++ []
def dkwX49_ticket_15 : List UInt8 := [182, 0, 108, 54, 13, 42, 42, 180, 0, 112, 182, 0, 155, 54, 14, 42, 89, 180, 0, 112, 4, 96]
abbrev dktX49_ticket_15 : List UInt8 := dkwX49_ticket_15 ++ dktX49_ticket_16
def dkwX49_ticket_14 : List UInt8 := [182, 0, 108, 54, 13, 42, 21, 13, 22, 7, 16, 8, 182, 0, 108, 54, 13, 42, 21, 13, 21, 9, 133, 7]
abbrev dktX49_ticket_14 : List UInt8 := dkwX49_ticket_14 ++ dktX49_ticket_15
def dkwX49_ticket_13 : List UInt8 := [7, 182, 0, 108, 54, 13, 42, 21, 13, 33, 16, 8, 182, 0, 108, 54, 13, 42, 21, 13, 22, 10, 16, 8]
abbrev dktX49_ticket_13 : List UInt8 := dkwX49_ticket_13 ++ dktX49_ticket_14
def dkwX49_ticket_12 : List UInt8 := [180, 0, 112, 182, 0, 152, 54, 13, 42, 21, 13, 27, 133, 7, 182, 0, 108, 54, 13, 42, 21, 13, 28, 133]
abbrev dktX49_ticket_12 : List UInt8 := dkwX49_ticket_12 ++ dktX49_ticket_13
def dkwX49_ticket_11 : List UInt8 := [180, 0, 25, 21, 12, 16, 8, 96, 9, 80, 42, 89, 180, 0, 146, 4, 96, 181, 0, 146, 42, 4, 42]
abbrev dktX49_ticket_11 : List UInt8 := dkwX49_ticket_11 ++ dktX49_ticket_12
def dkwX49_ticket_10 : List UInt8 := [21, 12, 16, 6, 96, 22, 7, 80, 42, 180, 0, 25, 21, 12, 16, 7, 96, 21, 9, 133, 80, 42]
abbrev dktX49_ticket_10 : List UInt8 := dkwX49_ticket_10 ++ dktX49_ticket_11
def dkwX49_ticket_9 : List UInt8 := [180, 0, 25, 21, 12, 6, 96, 33, 80, 42, 180, 0, 25, 21, 12, 7, 96, 22, 10, 80, 42, 180, 0, 25]
abbrev dktX49_ticket_9 : List UInt8 := dkwX49_ticket_9 ++ dktX49_ticket_10
def dkwX49_ticket_8 : List UInt8 := [42, 180, 0, 25, 21, 12, 4, 96, 27, 133, 80, 42, 180, 0, 25, 21, 12, 5, 96, 28, 133, 80, 42]
abbrev dktX49_ticket_8 : List UInt8 := dkwX49_ticket_8 ++ dktX49_ticket_9
def dkwX49_ticket_7 : List UInt8 := [16, 254, 172, 16, 9, 42, 180, 0, 112, 104, 54, 12, 42, 180, 0, 25, 21, 12, 42, 180, 0, 146, 133, 80]
abbrev dktX49_ticket_7 : List UInt8 := dkwX49_ticket_7 ++ dktX49_ticket_8
def dkwX49_ticket_6 : List UInt8 := [180, 0, 146, 79, 42, 89, 180, 0, 149, 4, 96, 181, 0, 149, 42, 89, 180, 0, 146, 4, 96, 181, 0, 146]
abbrev dktX49_ticket_6 : List UInt8 := dkwX49_ticket_6 ++ dktX49_ticket_7
def dkwX49_ticket_5 : List UInt8 := [17, 1, 144, 160, 0, 5, 2, 172, 33, 22, 10, 148, 156, 0, 39, 42, 180, 0, 32, 42, 180, 0, 149, 42]
abbrev dktX49_ticket_5 : List UInt8 := dkwX49_ticket_5 ++ dktX49_ticket_6
def dkwX49_ticket_4 : List UInt8 := [55, 10, 22, 10, 9, 148, 155, 0, 23, 42, 180, 0, 98, 17, 0, 200, 159, 0, 13, 42, 180, 0, 146]
abbrev dktX49_ticket_4 : List UInt8 := dkwX49_ticket_4 ++ dktX49_ticket_5
def dkwX49_ticket_3 : List UInt8 := [2, 172, 22, 5, 9, 148, 156, 0, 16, 42, 27, 22, 7, 184, 0, 104, 182, 0, 142, 167, 0, 5, 22, 5]
abbrev dktX49_ticket_3 : List UInt8 := dkwX49_ticket_3 ++ dktX49_ticket_4
def dkwX49_ticket_2 : List UInt8 := [153, 0, 24, 16, 6, 22, 7, 184, 0, 138, 153, 0, 14, 16, 7, 21, 9, 133, 184, 0, 138, 154, 0, 5]
abbrev dktX49_ticket_2 : List UInt8 := dkwX49_ticket_2 ++ dktX49_ticket_3
def dkwX49_ticket_1 : List UInt8 := [33, 184, 0, 138, 153, 0, 42, 22, 5, 20, 0, 136, 148, 153, 0, 12, 7, 22, 5, 184, 0, 138]
abbrev dktX49_ticket_1 : List UInt8 := dkwX49_ticket_1 ++ dktX49_ticket_2
def dkwX49_ticket_0 : List UInt8 := [42, 3, 181, 0, 67, 4, 27, 133, 184, 0, 138, 153, 0, 59, 5, 28, 133, 184, 0, 138, 153, 0, 50, 6]
abbrev dktX49_ticket_0 : List UInt8 := dkwX49_ticket_0 ++ dktX49_ticket_1
theorem dksX49_ticket_0 : cX49_ticket.data.toList.drop 0 = dktX49_ticket_0 := by decide +kernel
theorem dksX49_ticket_1 : cX49_ticket.data.toList.drop 24 = dktX49_ticket_1 := dk_seg dksX49_ticket_0 24 rfl rfl
theorem dksX49_ticket_2 : cX49_ticket.data.toList.drop 46 = dktX49_ticket_2 := dk_seg dksX49_ticket_1 22 rfl rfl
theorem dksX49_ticket_3 : cX49_ticket.data.toList.drop 70 = dktX49_ticket_3 := dk_seg dksX49_ticket_2 24 rfl rfl
theorem dksX49_ticket_4 : cX49_ticket.data.toList.drop 94 = dktX49_ticket_4 := dk_seg dksX49_ticket_3 24 rfl rfl
theorem dksX49_ticket_5 : cX49_ticket.data.toList.drop 117 = dktX49_ticket_5 := dk_seg dksX49_ticket_4 23 rfl rfl
theorem dksX49_ticket_6 : cX49_ticket.data.toList.drop 141 = dktX49_ticket_6 := dk_seg dksX49_ticket_5 24 rfl rfl
theorem dksX49_ticket_7 : cX49_ticket.data.toList.drop 165 = dktX49_ticket_7 := dk_seg dksX49_ticket_6 24 rfl rfl
theorem dksX49_ticket_8 : cX49_ticket.data.toList.drop 189 = dktX49_ticket_8 := dk_seg dksX49_ticket_7 24 rfl rfl
theorem dksX49_ticket_9 : cX49_ticket.data.toList.drop 212 = dktX49_ticket_9 := dk_seg dksX49_ticket_8 23 rfl rfl
theorem dksX49_ticket_10 : cX49_ticket.data.toList.drop 236 = dktX49_ticket_10 := dk_seg dksX49_ticket_9 24 rfl rfl
theorem dksX49_ticket_11 : cX49_ticket.data.toList.drop 258 = dktX49_ticket_11 := dk_seg dksX49_ticket_10 22 rfl rfl
theorem dksX49_ticket_12 : cX49_ticket.data.toList.drop 281 = dktX49_ticket_12 := dk_seg dksX49_ticket_11 23 rfl rfl
theorem dksX49_ticket_13 : cX49_ticket.data.toList.drop 305 = dktX49_ticket_13 := dk_seg dksX49_ticket_12 24 rfl rfl
theorem dksX49_ticket_14 : cX49_ticket.data.toList.drop 329 = dktX49_ticket_14 := dk_seg dksX49_ticket_13 24 rfl rfl
theorem dksX49_ticket_15 : cX49_ticket.data.toList.drop 353 = dktX49_ticket_15 := dk_seg dksX49_ticket_14 24 rfl rfl
theorem dksX49_ticket_16 : cX49_ticket.data.toList.drop 375 = dktX49_ticket_16 := dk_seg dksX49_ticket_15 22 rfl rfl
theorem dX49_ticket_0 : decode cX49_ticket 0 = .ok (.aload_n 0, 1) := dk_42 (dk_at dksX49_ticket_0 0 rfl rfl)
theorem dX49_ticket_1 : decode cX49_ticket 1 = .ok (.iconst 0, 1) := dk_3 (dk_at dksX49_ticket_0 1 rfl rfl)
theorem dX49_ticket_2 : decode cX49_ticket 2 = .ok (.putfield 67, 3) := dk_181 0 67 (dk_at dksX49_ticket_0 2 rfl rfl)
theorem dX49_ticket_5 : decode cX49_ticket 5 = .ok (.iconst 1, 1) := dk_4 (dk_at dksX49_ticket_0 5 rfl rfl)
theorem dX49_ticket_6 : decode cX49_ticket 6 = .ok (.iload_n 1, 1) := dk_27 (dk_at dksX49_ticket_0 6 rfl rfl)
theorem dX49_ticket_7 : decode cX49_ticket 7 = .ok (.i2l, 1) := dk_133 (dk_at dksX49_ticket_0 7 rfl rfl)
theorem dX49_ticket_8 : decode cX49_ticket 8 = .ok (.invokestatic 138, 3) := dk_184 0 138 (dk_at dksX49_ticket_0 8 rfl rfl)
theorem dX49_ticket_11 : decode cX49_ticket 11 = .ok (.ifCond .eq 59, 3) := dk_153 0 59 (dk_at dksX49_ticket_0 11 rfl rfl)
theorem dX49_ticket_14 : decode cX49_ticket 14 = .ok (.iconst 2, 1) := dk_5 (dk_at dksX49_ticket_0 14 rfl rfl)
theorem dX49_ticket_15 : decode cX49_ticket 15 = .ok (.iload_n 2, 1) := dk_28 (dk_at dksX49_ticket_0 15 rfl rfl)
theorem dX49_ticket_16 : decode cX49_ticket 16 = .ok (.i2l, 1) := dk_133 (dk_at dksX49_ticket_0 16 rfl rfl)
theorem dX49_ticket_17 : decode cX49_ticket 17 = .ok (.invokestatic 138, 3) := dk_184 0 138 (dk_at dksX49_ticket_0 17 rfl rfl)
theorem dX49_ticket_20 : decode cX49_ticket 20 = .ok (.ifCond .eq 50, 3) := dk_153 0 50 (dk_at dksX49_ticket_0 20 rfl rfl)
theorem dX49_ticket_23 : decode cX49_ticket 23 = .ok (.iconst 3, 1) := dk_6 (dk_at dksX49_ticket_0 23 rfl rfl)
theorem dX49_ticket_24 : decode cX49_ticket 24 = .ok (.lload_n 3, 1) := dk_33 (dk_at dksX49_ticket_1 0 rfl rfl)
theorem dX49_ticket_25 : decode cX49_ticket 25 = .ok (.invokestatic 138, 3) := dk_184 0 138 (dk_at dksX49_ticket_1 1 rfl rfl)
theorem dX49_ticket_28 : decode cX49_ticket 28 = .ok (.ifCond .eq 42, 3) := dk_153 0 42 (dk_at dksX49_ticket_1 4 rfl rfl)
theorem dX49_ticket_31 : decode cX49_ticket 31 = .ok (.lload 5, 2) := dk_22 5 (dk_at dksX49_ticket_1 7 rfl rfl)
theorem dX49_ticket_33 : decode cX49_ticket 33 = .ok (.ldc2_w 136, 3) := dk_20 0 136 (dk_at dksX49_ticket_1 9 rfl rfl)
theorem dX49_ticket_36 : decode cX49_ticket 36 = .ok (.lcmp, 1) := dk_148 (dk_at dksX49_ticket_1 12 rfl rfl)
theorem dX49_ticket_37 : decode cX49_ticket 37 = .ok (.ifCond .eq 12, 3) := dk_153 0 12 (dk_at dksX49_ticket_1 13 rfl rfl)
theorem dX49_ticket_40 : decode cX49_ticket 40 = .ok (.iconst 4, 1) := dk_7 (dk_at dksX49_ticket_1 16 rfl rfl)
theorem dX49_ticket_41 : decode cX49_ticket 41 = .ok (.lload 5, 2) := dk_22 5 (dk_at dksX49_ticket_1 17 rfl rfl)
theorem dX49_ticket_43 : decode cX49_ticket 43 = .ok (.invokestatic 138, 3) := dk_184 0 138 (dk_at dksX49_ticket_1 19 rfl rfl)
theorem dX49_ticket_46 : decode cX49_ticket 46 = .ok (.ifCond .eq 24, 3) := dk_153 0 24 (dk_at dksX49_ticket_2 0 rfl rfl)
theorem dX49_ticket_49 : decode cX49_ticket 49 = .ok (.bipush 6, 2) := dk_16 6 (dk_at dksX49_ticket_2 3 rfl rfl)
theorem dX49_ticket_51 : decode cX49_ticket 51 = .ok (.lload 7, 2) := dk_22 7 (dk_at dksX49_ticket_2 5 rfl rfl)
theorem dX49_ticket_53 : decode cX49_ticket 53 = .ok (.invokestatic 138, 3) := dk_184 0 138 (dk_at dksX49_ticket_2 7 rfl rfl)
theorem dX49_ticket_56 : decode cX49_ticket 56 = .ok (.ifCond .eq 14, 3) := dk_153 0 14 (dk_at dksX49_ticket_2 10 rfl rfl)
theorem dX49_ticket_59 : decode cX49_ticket 59 = .ok (.bipush 7, 2) := dk_16 7 (dk_at dksX49_ticket_2 13 rfl rfl)
theorem dX49_ticket_61 : decode cX49_ticket 61 = .ok (.iload 9, 2) := dk_21 9 (dk_at dksX49_ticket_2 15 rfl rfl)
theorem dX49_ticket_63 : decode cX49_ticket 63 = .ok (.i2l, 1) := dk_133 (dk_at dksX49_ticket_2 17 rfl rfl)
theorem dX49_ticket_64 : decode cX49_ticket 64 = .ok (.invokestatic 138, 3) := dk_184 0 138 (dk_at dksX49_ticket_2 18 rfl rfl)
theorem dX49_ticket_67 : decode cX49_ticket 67 = .ok (.ifCond .ne 5, 3) := dk_154 0 5 (dk_at dksX49_ticket_2 21 rfl rfl)
theorem dX49_ticket_70 : decode cX49_ticket 70 = .ok (.iconst (-1), 1) := dk_2 (dk_at dksX49_ticket_3 0 rfl rfl)
theorem dX49_ticket_71 : decode cX49_ticket 71 = .ok (.ireturn, 1) := dk_172 (dk_at dksX49_ticket_3 1 rfl rfl)
theorem dX49_ticket_72 : decode cX49_ticket 72 = .ok (.lload 5, 2) := dk_22 5 (dk_at dksX49_ticket_3 2 rfl rfl)
theorem dX49_ticket_74 : decode cX49_ticket 74 = .ok (.lconst 0, 1) := dk_9 (dk_at dksX49_ticket_3 4 rfl rfl)
theorem dX49_ticket_75 : decode cX49_ticket 75 = .ok (.lcmp, 1) := dk_148 (dk_at dksX49_ticket_3 5 rfl rfl)
theorem dX49_ticket_76 : decode cX49_ticket 76 = .ok (.ifCond .ge 16, 3) := dk_156 0 16 (dk_at dksX49_ticket_3 6 rfl rfl)
theorem dX49_ticket_79 : decode cX49_ticket 79 = .ok (.aload_n 0, 1) := dk_42 (dk_at dksX49_ticket_3 9 rfl rfl)
theorem dX49_ticket_80 : decode cX49_ticket 80 = .ok (.iload_n 1, 1) := dk_27 (dk_at dksX49_ticket_3 10 rfl rfl)
theorem dX49_ticket_81 : decode cX49_ticket 81 = .ok (.lload 7, 2) := dk_22 7 (dk_at dksX49_ticket_3 11 rfl rfl)
theorem dX49_ticket_83 : decode cX49_ticket 83 = .ok (.invokestatic 104, 3) := dk_184 0 104 (dk_at dksX49_ticket_3 13 rfl rfl)
theorem dX49_ticket_86 : decode cX49_ticket 86 = .ok (.invokevirtual 142, 3) := dk_182 0 142 (dk_at dksX49_ticket_3 16 rfl rfl)
theorem dX49_ticket_89 : decode cX49_ticket 89 = .ok (.goto 5, 3) := dk_167 0 5 (dk_at dksX49_ticket_3 19 rfl rfl)
theorem dX49_ticket_92 : decode cX49_ticket 92 = .ok (.lload 5, 2) := dk_22 5 (dk_at dksX49_ticket_3 22 rfl rfl)
theorem dX49_ticket_94 : decode cX49_ticket 94 = .ok (.lstore 10, 2) := dk_55 10 (dk_at dksX49_ticket_4 0 rfl rfl)
theorem dX49_ticket_96 : decode cX49_ticket 96 = .ok (.lload 10, 2) := dk_22 10 (dk_at dksX49_ticket_4 2 rfl rfl)
theorem dX49_ticket_98 : decode cX49_ticket 98 = .ok (.lconst 0, 1) := dk_9 (dk_at dksX49_ticket_4 4 rfl rfl)
theorem dX49_ticket_99 : decode cX49_ticket 99 = .ok (.lcmp, 1) := dk_148 (dk_at dksX49_ticket_4 5 rfl rfl)
theorem dX49_ticket_100 : decode cX49_ticket 100 = .ok (.ifCond .lt 23, 3) := dk_155 0 23 (dk_at dksX49_ticket_4 6 rfl rfl)
theorem dX49_ticket_103 : decode cX49_ticket 103 = .ok (.aload_n 0, 1) := dk_42 (dk_at dksX49_ticket_4 9 rfl rfl)
theorem dX49_ticket_104 : decode cX49_ticket 104 = .ok (.getfield 98, 3) := dk_180 0 98 (dk_at dksX49_ticket_4 10 rfl rfl)
theorem dX49_ticket_107 : decode cX49_ticket 107 = .ok (.sipush 200, 3) := dk_17 0 200 (dk_at dksX49_ticket_4 13 rfl rfl)
theorem dX49_ticket_110 : decode cX49_ticket 110 = .ok (.if_icmp .eq 13, 3) := dk_159 0 13 (dk_at dksX49_ticket_4 16 rfl rfl)
theorem dX49_ticket_113 : decode cX49_ticket 113 = .ok (.aload_n 0, 1) := dk_42 (dk_at dksX49_ticket_4 19 rfl rfl)
theorem dX49_ticket_114 : decode cX49_ticket 114 = .ok (.getfield 146, 3) := dk_180 0 146 (dk_at dksX49_ticket_4 20 rfl rfl)
theorem dX49_ticket_117 : decode cX49_ticket 117 = .ok (.sipush 400, 3) := dk_17 1 144 (dk_at dksX49_ticket_5 0 rfl rfl)
theorem dX49_ticket_120 : decode cX49_ticket 120 = .ok (.if_icmp .ne 5, 3) := dk_160 0 5 (dk_at dksX49_ticket_5 3 rfl rfl)
theorem dX49_ticket_123 : decode cX49_ticket 123 = .ok (.iconst (-1), 1) := dk_2 (dk_at dksX49_ticket_5 6 rfl rfl)
theorem dX49_ticket_124 : decode cX49_ticket 124 = .ok (.ireturn, 1) := dk_172 (dk_at dksX49_ticket_5 7 rfl rfl)
theorem dX49_ticket_125 : decode cX49_ticket 125 = .ok (.lload_n 3, 1) := dk_33 (dk_at dksX49_ticket_5 8 rfl rfl)
theorem dX49_ticket_126 : decode cX49_ticket 126 = .ok (.lload 10, 2) := dk_22 10 (dk_at dksX49_ticket_5 9 rfl rfl)
theorem dX49_ticket_128 : decode cX49_ticket 128 = .ok (.lcmp, 1) := dk_148 (dk_at dksX49_ticket_5 11 rfl rfl)
theorem dX49_ticket_129 : decode cX49_ticket 129 = .ok (.ifCond .ge 39, 3) := dk_156 0 39 (dk_at dksX49_ticket_5 12 rfl rfl)
theorem dX49_ticket_132 : decode cX49_ticket 132 = .ok (.aload_n 0, 1) := dk_42 (dk_at dksX49_ticket_5 15 rfl rfl)
theorem dX49_ticket_133 : decode cX49_ticket 133 = .ok (.getfield 32, 3) := dk_180 0 32 (dk_at dksX49_ticket_5 16 rfl rfl)
theorem dX49_ticket_136 : decode cX49_ticket 136 = .ok (.aload_n 0, 1) := dk_42 (dk_at dksX49_ticket_5 19 rfl rfl)
theorem dX49_ticket_137 : decode cX49_ticket 137 = .ok (.getfield 149, 3) := dk_180 0 149 (dk_at dksX49_ticket_5 20 rfl rfl)
theorem dX49_ticket_140 : decode cX49_ticket 140 = .ok (.aload_n 0, 1) := dk_42 (dk_at dksX49_ticket_5 23 rfl rfl)
theorem dX49_ticket_141 : decode cX49_ticket 141 = .ok (.getfield 146, 3) := dk_180 0 146 (dk_at dksX49_ticket_6 0 rfl rfl)
theorem dX49_ticket_144 : decode cX49_ticket 144 = .ok (.iastore, 1) := dk_79 (dk_at dksX49_ticket_6 3 rfl rfl)
theorem dX49_ticket_145 : decode cX49_ticket 145 = .ok (.aload_n 0, 1) := dk_42 (dk_at dksX49_ticket_6 4 rfl rfl)
theorem dX49_ticket_146 : decode cX49_ticket 146 = .ok (.dup, 1) := dk_89 (dk_at dksX49_ticket_6 5 rfl rfl)
theorem dX49_ticket_147 : decode cX49_ticket 147 = .ok (.getfield 149, 3) := dk_180 0 149 (dk_at dksX49_ticket_6 6 rfl rfl)
theorem dX49_ticket_150 : decode cX49_ticket 150 = .ok (.iconst 1, 1) := dk_4 (dk_at dksX49_ticket_6 9 rfl rfl)
theorem dX49_ticket_151 : decode cX49_ticket 151 = .ok (.iadd, 1) := dk_96 (dk_at dksX49_ticket_6 10 rfl rfl)
theorem dX49_ticket_152 : decode cX49_ticket 152 = .ok (.putfield 149, 3) := dk_181 0 149 (dk_at dksX49_ticket_6 11 rfl rfl)
theorem dX49_ticket_155 : decode cX49_ticket 155 = .ok (.aload_n 0, 1) := dk_42 (dk_at dksX49_ticket_6 14 rfl rfl)
theorem dX49_ticket_156 : decode cX49_ticket 156 = .ok (.dup, 1) := dk_89 (dk_at dksX49_ticket_6 15 rfl rfl)
theorem dX49_ticket_157 : decode cX49_ticket 157 = .ok (.getfield 146, 3) := dk_180 0 146 (dk_at dksX49_ticket_6 16 rfl rfl)
theorem dX49_ticket_160 : decode cX49_ticket 160 = .ok (.iconst 1, 1) := dk_4 (dk_at dksX49_ticket_6 19 rfl rfl)
theorem dX49_ticket_161 : decode cX49_ticket 161 = .ok (.iadd, 1) := dk_96 (dk_at dksX49_ticket_6 20 rfl rfl)
theorem dX49_ticket_162 : decode cX49_ticket 162 = .ok (.putfield 146, 3) := dk_181 0 146 (dk_at dksX49_ticket_6 21 rfl rfl)
theorem dX49_ticket_165 : decode cX49_ticket 165 = .ok (.bipush (-2), 2) := dk_16 254 (dk_at dksX49_ticket_7 0 rfl rfl)
theorem dX49_ticket_167 : decode cX49_ticket 167 = .ok (.ireturn, 1) := dk_172 (dk_at dksX49_ticket_7 2 rfl rfl)
theorem dX49_ticket_168 : decode cX49_ticket 168 = .ok (.bipush 9, 2) := dk_16 9 (dk_at dksX49_ticket_7 3 rfl rfl)
theorem dX49_ticket_170 : decode cX49_ticket 170 = .ok (.aload_n 0, 1) := dk_42 (dk_at dksX49_ticket_7 5 rfl rfl)
theorem dX49_ticket_171 : decode cX49_ticket 171 = .ok (.getfield 112, 3) := dk_180 0 112 (dk_at dksX49_ticket_7 6 rfl rfl)
theorem dX49_ticket_174 : decode cX49_ticket 174 = .ok (.imul, 1) := dk_104 (dk_at dksX49_ticket_7 9 rfl rfl)
theorem dX49_ticket_175 : decode cX49_ticket 175 = .ok (.istore 12, 2) := dk_54 12 (dk_at dksX49_ticket_7 10 rfl rfl)
theorem dX49_ticket_177 : decode cX49_ticket 177 = .ok (.aload_n 0, 1) := dk_42 (dk_at dksX49_ticket_7 12 rfl rfl)
theorem dX49_ticket_178 : decode cX49_ticket 178 = .ok (.getfield 25, 3) := dk_180 0 25 (dk_at dksX49_ticket_7 13 rfl rfl)
theorem dX49_ticket_181 : decode cX49_ticket 181 = .ok (.iload 12, 2) := dk_21 12 (dk_at dksX49_ticket_7 16 rfl rfl)
theorem dX49_ticket_183 : decode cX49_ticket 183 = .ok (.aload_n 0, 1) := dk_42 (dk_at dksX49_ticket_7 18 rfl rfl)
theorem dX49_ticket_184 : decode cX49_ticket 184 = .ok (.getfield 146, 3) := dk_180 0 146 (dk_at dksX49_ticket_7 19 rfl rfl)
theorem dX49_ticket_187 : decode cX49_ticket 187 = .ok (.i2l, 1) := dk_133 (dk_at dksX49_ticket_7 22 rfl rfl)
theorem dX49_ticket_188 : decode cX49_ticket 188 = .ok (.lastore, 1) := dk_80 (dk_at dksX49_ticket_7 23 rfl rfl)
theorem dX49_ticket_189 : decode cX49_ticket 189 = .ok (.aload_n 0, 1) := dk_42 (dk_at dksX49_ticket_8 0 rfl rfl)
theorem dX49_ticket_190 : decode cX49_ticket 190 = .ok (.getfield 25, 3) := dk_180 0 25 (dk_at dksX49_ticket_8 1 rfl rfl)
theorem dX49_ticket_193 : decode cX49_ticket 193 = .ok (.iload 12, 2) := dk_21 12 (dk_at dksX49_ticket_8 4 rfl rfl)
theorem dX49_ticket_195 : decode cX49_ticket 195 = .ok (.iconst 1, 1) := dk_4 (dk_at dksX49_ticket_8 6 rfl rfl)
theorem dX49_ticket_196 : decode cX49_ticket 196 = .ok (.iadd, 1) := dk_96 (dk_at dksX49_ticket_8 7 rfl rfl)
theorem dX49_ticket_197 : decode cX49_ticket 197 = .ok (.iload_n 1, 1) := dk_27 (dk_at dksX49_ticket_8 8 rfl rfl)
theorem dX49_ticket_198 : decode cX49_ticket 198 = .ok (.i2l, 1) := dk_133 (dk_at dksX49_ticket_8 9 rfl rfl)
theorem dX49_ticket_199 : decode cX49_ticket 199 = .ok (.lastore, 1) := dk_80 (dk_at dksX49_ticket_8 10 rfl rfl)
theorem dX49_ticket_200 : decode cX49_ticket 200 = .ok (.aload_n 0, 1) := dk_42 (dk_at dksX49_ticket_8 11 rfl rfl)
theorem dX49_ticket_201 : decode cX49_ticket 201 = .ok (.getfield 25, 3) := dk_180 0 25 (dk_at dksX49_ticket_8 12 rfl rfl)
theorem dX49_ticket_204 : decode cX49_ticket 204 = .ok (.iload 12, 2) := dk_21 12 (dk_at dksX49_ticket_8 15 rfl rfl)
theorem dX49_ticket_206 : decode cX49_ticket 206 = .ok (.iconst 2, 1) := dk_5 (dk_at dksX49_ticket_8 17 rfl rfl)
theorem dX49_ticket_207 : decode cX49_ticket 207 = .ok (.iadd, 1) := dk_96 (dk_at dksX49_ticket_8 18 rfl rfl)
theorem dX49_ticket_208 : decode cX49_ticket 208 = .ok (.iload_n 2, 1) := dk_28 (dk_at dksX49_ticket_8 19 rfl rfl)
theorem dX49_ticket_209 : decode cX49_ticket 209 = .ok (.i2l, 1) := dk_133 (dk_at dksX49_ticket_8 20 rfl rfl)
theorem dX49_ticket_210 : decode cX49_ticket 210 = .ok (.lastore, 1) := dk_80 (dk_at dksX49_ticket_8 21 rfl rfl)
theorem dX49_ticket_211 : decode cX49_ticket 211 = .ok (.aload_n 0, 1) := dk_42 (dk_at dksX49_ticket_8 22 rfl rfl)
theorem dX49_ticket_212 : decode cX49_ticket 212 = .ok (.getfield 25, 3) := dk_180 0 25 (dk_at dksX49_ticket_9 0 rfl rfl)
theorem dX49_ticket_215 : decode cX49_ticket 215 = .ok (.iload 12, 2) := dk_21 12 (dk_at dksX49_ticket_9 3 rfl rfl)
theorem dX49_ticket_217 : decode cX49_ticket 217 = .ok (.iconst 3, 1) := dk_6 (dk_at dksX49_ticket_9 5 rfl rfl)
theorem dX49_ticket_218 : decode cX49_ticket 218 = .ok (.iadd, 1) := dk_96 (dk_at dksX49_ticket_9 6 rfl rfl)
theorem dX49_ticket_219 : decode cX49_ticket 219 = .ok (.lload_n 3, 1) := dk_33 (dk_at dksX49_ticket_9 7 rfl rfl)
theorem dX49_ticket_220 : decode cX49_ticket 220 = .ok (.lastore, 1) := dk_80 (dk_at dksX49_ticket_9 8 rfl rfl)
theorem dX49_ticket_221 : decode cX49_ticket 221 = .ok (.aload_n 0, 1) := dk_42 (dk_at dksX49_ticket_9 9 rfl rfl)
theorem dX49_ticket_222 : decode cX49_ticket 222 = .ok (.getfield 25, 3) := dk_180 0 25 (dk_at dksX49_ticket_9 10 rfl rfl)
theorem dX49_ticket_225 : decode cX49_ticket 225 = .ok (.iload 12, 2) := dk_21 12 (dk_at dksX49_ticket_9 13 rfl rfl)
theorem dX49_ticket_227 : decode cX49_ticket 227 = .ok (.iconst 4, 1) := dk_7 (dk_at dksX49_ticket_9 15 rfl rfl)
theorem dX49_ticket_228 : decode cX49_ticket 228 = .ok (.iadd, 1) := dk_96 (dk_at dksX49_ticket_9 16 rfl rfl)
theorem dX49_ticket_229 : decode cX49_ticket 229 = .ok (.lload 10, 2) := dk_22 10 (dk_at dksX49_ticket_9 17 rfl rfl)
theorem dX49_ticket_231 : decode cX49_ticket 231 = .ok (.lastore, 1) := dk_80 (dk_at dksX49_ticket_9 19 rfl rfl)
theorem dX49_ticket_232 : decode cX49_ticket 232 = .ok (.aload_n 0, 1) := dk_42 (dk_at dksX49_ticket_9 20 rfl rfl)
theorem dX49_ticket_233 : decode cX49_ticket 233 = .ok (.getfield 25, 3) := dk_180 0 25 (dk_at dksX49_ticket_9 21 rfl rfl)
theorem dX49_ticket_236 : decode cX49_ticket 236 = .ok (.iload 12, 2) := dk_21 12 (dk_at dksX49_ticket_10 0 rfl rfl)
theorem dX49_ticket_238 : decode cX49_ticket 238 = .ok (.bipush 6, 2) := dk_16 6 (dk_at dksX49_ticket_10 2 rfl rfl)
theorem dX49_ticket_240 : decode cX49_ticket 240 = .ok (.iadd, 1) := dk_96 (dk_at dksX49_ticket_10 4 rfl rfl)
theorem dX49_ticket_241 : decode cX49_ticket 241 = .ok (.lload 7, 2) := dk_22 7 (dk_at dksX49_ticket_10 5 rfl rfl)
theorem dX49_ticket_243 : decode cX49_ticket 243 = .ok (.lastore, 1) := dk_80 (dk_at dksX49_ticket_10 7 rfl rfl)
theorem dX49_ticket_244 : decode cX49_ticket 244 = .ok (.aload_n 0, 1) := dk_42 (dk_at dksX49_ticket_10 8 rfl rfl)
theorem dX49_ticket_245 : decode cX49_ticket 245 = .ok (.getfield 25, 3) := dk_180 0 25 (dk_at dksX49_ticket_10 9 rfl rfl)
theorem dX49_ticket_248 : decode cX49_ticket 248 = .ok (.iload 12, 2) := dk_21 12 (dk_at dksX49_ticket_10 12 rfl rfl)
theorem dX49_ticket_250 : decode cX49_ticket 250 = .ok (.bipush 7, 2) := dk_16 7 (dk_at dksX49_ticket_10 14 rfl rfl)
theorem dX49_ticket_252 : decode cX49_ticket 252 = .ok (.iadd, 1) := dk_96 (dk_at dksX49_ticket_10 16 rfl rfl)
theorem dX49_ticket_253 : decode cX49_ticket 253 = .ok (.iload 9, 2) := dk_21 9 (dk_at dksX49_ticket_10 17 rfl rfl)
theorem dX49_ticket_255 : decode cX49_ticket 255 = .ok (.i2l, 1) := dk_133 (dk_at dksX49_ticket_10 19 rfl rfl)
theorem dX49_ticket_256 : decode cX49_ticket 256 = .ok (.lastore, 1) := dk_80 (dk_at dksX49_ticket_10 20 rfl rfl)
theorem dX49_ticket_257 : decode cX49_ticket 257 = .ok (.aload_n 0, 1) := dk_42 (dk_at dksX49_ticket_10 21 rfl rfl)
theorem dX49_ticket_258 : decode cX49_ticket 258 = .ok (.getfield 25, 3) := dk_180 0 25 (dk_at dksX49_ticket_11 0 rfl rfl)
theorem dX49_ticket_261 : decode cX49_ticket 261 = .ok (.iload 12, 2) := dk_21 12 (dk_at dksX49_ticket_11 3 rfl rfl)
theorem dX49_ticket_263 : decode cX49_ticket 263 = .ok (.bipush 8, 2) := dk_16 8 (dk_at dksX49_ticket_11 5 rfl rfl)
theorem dX49_ticket_265 : decode cX49_ticket 265 = .ok (.iadd, 1) := dk_96 (dk_at dksX49_ticket_11 7 rfl rfl)
theorem dX49_ticket_266 : decode cX49_ticket 266 = .ok (.lconst 0, 1) := dk_9 (dk_at dksX49_ticket_11 8 rfl rfl)
theorem dX49_ticket_267 : decode cX49_ticket 267 = .ok (.lastore, 1) := dk_80 (dk_at dksX49_ticket_11 9 rfl rfl)
theorem dX49_ticket_268 : decode cX49_ticket 268 = .ok (.aload_n 0, 1) := dk_42 (dk_at dksX49_ticket_11 10 rfl rfl)
theorem dX49_ticket_269 : decode cX49_ticket 269 = .ok (.dup, 1) := dk_89 (dk_at dksX49_ticket_11 11 rfl rfl)
theorem dX49_ticket_270 : decode cX49_ticket 270 = .ok (.getfield 146, 3) := dk_180 0 146 (dk_at dksX49_ticket_11 12 rfl rfl)
theorem dX49_ticket_273 : decode cX49_ticket 273 = .ok (.iconst 1, 1) := dk_4 (dk_at dksX49_ticket_11 15 rfl rfl)
theorem dX49_ticket_274 : decode cX49_ticket 274 = .ok (.iadd, 1) := dk_96 (dk_at dksX49_ticket_11 16 rfl rfl)
theorem dX49_ticket_275 : decode cX49_ticket 275 = .ok (.putfield 146, 3) := dk_181 0 146 (dk_at dksX49_ticket_11 17 rfl rfl)
theorem dX49_ticket_278 : decode cX49_ticket 278 = .ok (.aload_n 0, 1) := dk_42 (dk_at dksX49_ticket_11 20 rfl rfl)
theorem dX49_ticket_279 : decode cX49_ticket 279 = .ok (.iconst 1, 1) := dk_4 (dk_at dksX49_ticket_11 21 rfl rfl)
theorem dX49_ticket_280 : decode cX49_ticket 280 = .ok (.aload_n 0, 1) := dk_42 (dk_at dksX49_ticket_11 22 rfl rfl)
theorem dX49_ticket_281 : decode cX49_ticket 281 = .ok (.getfield 112, 3) := dk_180 0 112 (dk_at dksX49_ticket_12 0 rfl rfl)
theorem dX49_ticket_284 : decode cX49_ticket 284 = .ok (.invokevirtual 152, 3) := dk_182 0 152 (dk_at dksX49_ticket_12 3 rfl rfl)
theorem dX49_ticket_287 : decode cX49_ticket 287 = .ok (.istore 13, 2) := dk_54 13 (dk_at dksX49_ticket_12 6 rfl rfl)
theorem dX49_ticket_289 : decode cX49_ticket 289 = .ok (.aload_n 0, 1) := dk_42 (dk_at dksX49_ticket_12 8 rfl rfl)
theorem dX49_ticket_290 : decode cX49_ticket 290 = .ok (.iload 13, 2) := dk_21 13 (dk_at dksX49_ticket_12 9 rfl rfl)
theorem dX49_ticket_292 : decode cX49_ticket 292 = .ok (.iload_n 1, 1) := dk_27 (dk_at dksX49_ticket_12 11 rfl rfl)
theorem dX49_ticket_293 : decode cX49_ticket 293 = .ok (.i2l, 1) := dk_133 (dk_at dksX49_ticket_12 12 rfl rfl)
theorem dX49_ticket_294 : decode cX49_ticket 294 = .ok (.iconst 4, 1) := dk_7 (dk_at dksX49_ticket_12 13 rfl rfl)
theorem dX49_ticket_295 : decode cX49_ticket 295 = .ok (.invokevirtual 108, 3) := dk_182 0 108 (dk_at dksX49_ticket_12 14 rfl rfl)
theorem dX49_ticket_298 : decode cX49_ticket 298 = .ok (.istore 13, 2) := dk_54 13 (dk_at dksX49_ticket_12 17 rfl rfl)
theorem dX49_ticket_300 : decode cX49_ticket 300 = .ok (.aload_n 0, 1) := dk_42 (dk_at dksX49_ticket_12 19 rfl rfl)
theorem dX49_ticket_301 : decode cX49_ticket 301 = .ok (.iload 13, 2) := dk_21 13 (dk_at dksX49_ticket_12 20 rfl rfl)
theorem dX49_ticket_303 : decode cX49_ticket 303 = .ok (.iload_n 2, 1) := dk_28 (dk_at dksX49_ticket_12 22 rfl rfl)
theorem dX49_ticket_304 : decode cX49_ticket 304 = .ok (.i2l, 1) := dk_133 (dk_at dksX49_ticket_12 23 rfl rfl)
theorem dX49_ticket_305 : decode cX49_ticket 305 = .ok (.iconst 4, 1) := dk_7 (dk_at dksX49_ticket_13 0 rfl rfl)
theorem dX49_ticket_306 : decode cX49_ticket 306 = .ok (.invokevirtual 108, 3) := dk_182 0 108 (dk_at dksX49_ticket_13 1 rfl rfl)
theorem dX49_ticket_309 : decode cX49_ticket 309 = .ok (.istore 13, 2) := dk_54 13 (dk_at dksX49_ticket_13 4 rfl rfl)
theorem dX49_ticket_311 : decode cX49_ticket 311 = .ok (.aload_n 0, 1) := dk_42 (dk_at dksX49_ticket_13 6 rfl rfl)
theorem dX49_ticket_312 : decode cX49_ticket 312 = .ok (.iload 13, 2) := dk_21 13 (dk_at dksX49_ticket_13 7 rfl rfl)
theorem dX49_ticket_314 : decode cX49_ticket 314 = .ok (.lload_n 3, 1) := dk_33 (dk_at dksX49_ticket_13 9 rfl rfl)
theorem dX49_ticket_315 : decode cX49_ticket 315 = .ok (.bipush 8, 2) := dk_16 8 (dk_at dksX49_ticket_13 10 rfl rfl)
theorem dX49_ticket_317 : decode cX49_ticket 317 = .ok (.invokevirtual 108, 3) := dk_182 0 108 (dk_at dksX49_ticket_13 12 rfl rfl)
theorem dX49_ticket_320 : decode cX49_ticket 320 = .ok (.istore 13, 2) := dk_54 13 (dk_at dksX49_ticket_13 15 rfl rfl)
theorem dX49_ticket_322 : decode cX49_ticket 322 = .ok (.aload_n 0, 1) := dk_42 (dk_at dksX49_ticket_13 17 rfl rfl)
theorem dX49_ticket_323 : decode cX49_ticket 323 = .ok (.iload 13, 2) := dk_21 13 (dk_at dksX49_ticket_13 18 rfl rfl)
theorem dX49_ticket_325 : decode cX49_ticket 325 = .ok (.lload 10, 2) := dk_22 10 (dk_at dksX49_ticket_13 20 rfl rfl)
theorem dX49_ticket_327 : decode cX49_ticket 327 = .ok (.bipush 8, 2) := dk_16 8 (dk_at dksX49_ticket_13 22 rfl rfl)
theorem dX49_ticket_329 : decode cX49_ticket 329 = .ok (.invokevirtual 108, 3) := dk_182 0 108 (dk_at dksX49_ticket_14 0 rfl rfl)
theorem dX49_ticket_332 : decode cX49_ticket 332 = .ok (.istore 13, 2) := dk_54 13 (dk_at dksX49_ticket_14 3 rfl rfl)
theorem dX49_ticket_334 : decode cX49_ticket 334 = .ok (.aload_n 0, 1) := dk_42 (dk_at dksX49_ticket_14 5 rfl rfl)
theorem dX49_ticket_335 : decode cX49_ticket 335 = .ok (.iload 13, 2) := dk_21 13 (dk_at dksX49_ticket_14 6 rfl rfl)
theorem dX49_ticket_337 : decode cX49_ticket 337 = .ok (.lload 7, 2) := dk_22 7 (dk_at dksX49_ticket_14 8 rfl rfl)
theorem dX49_ticket_339 : decode cX49_ticket 339 = .ok (.bipush 8, 2) := dk_16 8 (dk_at dksX49_ticket_14 10 rfl rfl)
theorem dX49_ticket_341 : decode cX49_ticket 341 = .ok (.invokevirtual 108, 3) := dk_182 0 108 (dk_at dksX49_ticket_14 12 rfl rfl)
theorem dX49_ticket_344 : decode cX49_ticket 344 = .ok (.istore 13, 2) := dk_54 13 (dk_at dksX49_ticket_14 15 rfl rfl)
theorem dX49_ticket_346 : decode cX49_ticket 346 = .ok (.aload_n 0, 1) := dk_42 (dk_at dksX49_ticket_14 17 rfl rfl)
theorem dX49_ticket_347 : decode cX49_ticket 347 = .ok (.iload 13, 2) := dk_21 13 (dk_at dksX49_ticket_14 18 rfl rfl)
theorem dX49_ticket_349 : decode cX49_ticket 349 = .ok (.iload 9, 2) := dk_21 9 (dk_at dksX49_ticket_14 20 rfl rfl)
theorem dX49_ticket_351 : decode cX49_ticket 351 = .ok (.i2l, 1) := dk_133 (dk_at dksX49_ticket_14 22 rfl rfl)
theorem dX49_ticket_352 : decode cX49_ticket 352 = .ok (.iconst 4, 1) := dk_7 (dk_at dksX49_ticket_14 23 rfl rfl)
theorem dX49_ticket_353 : decode cX49_ticket 353 = .ok (.invokevirtual 108, 3) := dk_182 0 108 (dk_at dksX49_ticket_15 0 rfl rfl)
theorem dX49_ticket_356 : decode cX49_ticket 356 = .ok (.istore 13, 2) := dk_54 13 (dk_at dksX49_ticket_15 3 rfl rfl)
theorem dX49_ticket_358 : decode cX49_ticket 358 = .ok (.aload_n 0, 1) := dk_42 (dk_at dksX49_ticket_15 5 rfl rfl)
theorem dX49_ticket_359 : decode cX49_ticket 359 = .ok (.aload_n 0, 1) := dk_42 (dk_at dksX49_ticket_15 6 rfl rfl)
theorem dX49_ticket_360 : decode cX49_ticket 360 = .ok (.getfield 112, 3) := dk_180 0 112 (dk_at dksX49_ticket_15 7 rfl rfl)
theorem dX49_ticket_363 : decode cX49_ticket 363 = .ok (.invokevirtual 155, 3) := dk_182 0 155 (dk_at dksX49_ticket_15 10 rfl rfl)
theorem dX49_ticket_366 : decode cX49_ticket 366 = .ok (.istore 14, 2) := dk_54 14 (dk_at dksX49_ticket_15 13 rfl rfl)
theorem dX49_ticket_368 : decode cX49_ticket 368 = .ok (.aload_n 0, 1) := dk_42 (dk_at dksX49_ticket_15 15 rfl rfl)
theorem dX49_ticket_369 : decode cX49_ticket 369 = .ok (.dup, 1) := dk_89 (dk_at dksX49_ticket_15 16 rfl rfl)
theorem dX49_ticket_370 : decode cX49_ticket 370 = .ok (.getfield 112, 3) := dk_180 0 112 (dk_at dksX49_ticket_15 17 rfl rfl)
theorem dX49_ticket_373 : decode cX49_ticket 373 = .ok (.iconst 1, 1) := dk_4 (dk_at dksX49_ticket_15 20 rfl rfl)
theorem dX49_ticket_374 : decode cX49_ticket 374 = .ok (.iadd, 1) := dk_96 (dk_at dksX49_ticket_15 21 rfl rfl)
theorem dX49_ticket_375 : decode cX49_ticket 375 = .ok (.putfield 112, 3) := dk_181 0 112 (dk_at dksX49_ticket_16 0 rfl rfl)
theorem dX49_ticket_378 : decode cX49_ticket 378 = .ok (.aload_n 0, 1) := dk_42 (dk_at dksX49_ticket_16 3 rfl rfl)
theorem dX49_ticket_379 : decode cX49_ticket 379 = .ok (.getfield 112, 3) := dk_180 0 112 (dk_at dksX49_ticket_16 4 rfl rfl)
theorem dX49_ticket_382 : decode cX49_ticket 382 = .ok (.iconst 1, 1) := dk_4 (dk_at dksX49_ticket_16 7 rfl rfl)
theorem dX49_ticket_383 : decode cX49_ticket 383 = .ok (.isub, 1) := dk_100 (dk_at dksX49_ticket_16 8 rfl rfl)
theorem dX49_ticket_384 : decode cX49_ticket 384 = .ok (.ireturn, 1) := dk_172 (dk_at dksX49_ticket_16 9 rfl rfl)
abbrev cX49_canBe : ByteArray := prog_65_method_16_code
def yX49_canBe : MethodName := ⟨RX49, "canBe", "(IJ)Z"⟩
def dkwX49_canBe_3 : List UInt8 := [31, 20, 0, 127, 184, 0, 119, 172, 31, 20, 0, 129, 184, 0, 119, 172, 3, 172]
abbrev dktX49_canBe_3 : List UInt8 := dkwX49_canBe_3 ++ []
def dkwX49_canBe_2 : List UInt8 := [31, 20, 0, 117, 184, 0, 119, 172, 31, 20, 0, 123, 184, 0, 119, 172, 31, 20, 0, 125, 184, 0, 119, 172]
abbrev dktX49_canBe_2 : List UInt8 := dkwX49_canBe_2 ++ dktX49_canBe_3
def dkwX49_canBe_1 : List UInt8 := [170, 0, 0, 0, 0, 0, 83, 0, 0, 0, 1, 0, 0, 0, 7, 0, 0, 0, 43, 0, 0, 0, 51, 0, 0, 0, 59, 0, 0, 0, 59, 0, 0, 0, 83, 0, 0, 0, 67, 0, 0, 0, 75]
abbrev dktX49_canBe_1 : List UInt8 := dkwX49_canBe_1 ++ dktX49_canBe_2
def dkwX49_canBe_0 : List UInt8 := [26]
abbrev dktX49_canBe_0 : List UInt8 := dkwX49_canBe_0 ++ dktX49_canBe_1
theorem dksX49_canBe_0 : cX49_canBe.data.toList.drop 0 = dktX49_canBe_0 := by decide +kernel
theorem dksX49_canBe_1 : cX49_canBe.data.toList.drop 1 = dktX49_canBe_1 := dk_seg dksX49_canBe_0 1 rfl rfl
theorem dksX49_canBe_2 : cX49_canBe.data.toList.drop 44 = dktX49_canBe_2 := dk_seg dksX49_canBe_1 43 rfl rfl
theorem dksX49_canBe_3 : cX49_canBe.data.toList.drop 68 = dktX49_canBe_3 := dk_seg dksX49_canBe_2 24 rfl rfl
theorem dX49_canBe_0 : decode cX49_canBe 0 = .ok (.iload_n 0, 1) := dk_26 (dk_at dksX49_canBe_0 0 rfl rfl)
theorem dX49_canBe_1 : decode cX49_canBe 1 = .ok (.tableswitch 83 1 7 #[43, 51, 59, 59, 83, 67, 75], 43) := by decide +kernel
theorem dX49_canBe_44 : decode cX49_canBe 44 = .ok (.lload_n 1, 1) := dk_31 (dk_at dksX49_canBe_2 0 rfl rfl)
theorem dX49_canBe_45 : decode cX49_canBe 45 = .ok (.ldc2_w 117, 3) := dk_20 0 117 (dk_at dksX49_canBe_2 1 rfl rfl)
theorem dX49_canBe_48 : decode cX49_canBe 48 = .ok (.invokestatic 119, 3) := dk_184 0 119 (dk_at dksX49_canBe_2 4 rfl rfl)
theorem dX49_canBe_51 : decode cX49_canBe 51 = .ok (.ireturn, 1) := dk_172 (dk_at dksX49_canBe_2 7 rfl rfl)
theorem dX49_canBe_52 : decode cX49_canBe 52 = .ok (.lload_n 1, 1) := dk_31 (dk_at dksX49_canBe_2 8 rfl rfl)
theorem dX49_canBe_53 : decode cX49_canBe 53 = .ok (.ldc2_w 123, 3) := dk_20 0 123 (dk_at dksX49_canBe_2 9 rfl rfl)
theorem dX49_canBe_56 : decode cX49_canBe 56 = .ok (.invokestatic 119, 3) := dk_184 0 119 (dk_at dksX49_canBe_2 12 rfl rfl)
theorem dX49_canBe_59 : decode cX49_canBe 59 = .ok (.ireturn, 1) := dk_172 (dk_at dksX49_canBe_2 15 rfl rfl)
theorem dX49_canBe_60 : decode cX49_canBe 60 = .ok (.lload_n 1, 1) := dk_31 (dk_at dksX49_canBe_2 16 rfl rfl)
theorem dX49_canBe_61 : decode cX49_canBe 61 = .ok (.ldc2_w 125, 3) := dk_20 0 125 (dk_at dksX49_canBe_2 17 rfl rfl)
theorem dX49_canBe_64 : decode cX49_canBe 64 = .ok (.invokestatic 119, 3) := dk_184 0 119 (dk_at dksX49_canBe_2 20 rfl rfl)
theorem dX49_canBe_67 : decode cX49_canBe 67 = .ok (.ireturn, 1) := dk_172 (dk_at dksX49_canBe_2 23 rfl rfl)
theorem dX49_canBe_68 : decode cX49_canBe 68 = .ok (.lload_n 1, 1) := dk_31 (dk_at dksX49_canBe_3 0 rfl rfl)
theorem dX49_canBe_69 : decode cX49_canBe 69 = .ok (.ldc2_w 127, 3) := dk_20 0 127 (dk_at dksX49_canBe_3 1 rfl rfl)
theorem dX49_canBe_72 : decode cX49_canBe 72 = .ok (.invokestatic 119, 3) := dk_184 0 119 (dk_at dksX49_canBe_3 4 rfl rfl)
theorem dX49_canBe_75 : decode cX49_canBe 75 = .ok (.ireturn, 1) := dk_172 (dk_at dksX49_canBe_3 7 rfl rfl)
theorem dX49_canBe_76 : decode cX49_canBe 76 = .ok (.lload_n 1, 1) := dk_31 (dk_at dksX49_canBe_3 8 rfl rfl)
theorem dX49_canBe_77 : decode cX49_canBe 77 = .ok (.ldc2_w 129, 3) := dk_20 0 129 (dk_at dksX49_canBe_3 9 rfl rfl)
theorem dX49_canBe_80 : decode cX49_canBe 80 = .ok (.invokestatic 119, 3) := dk_184 0 119 (dk_at dksX49_canBe_3 12 rfl rfl)
theorem dX49_canBe_83 : decode cX49_canBe 83 = .ok (.ireturn, 1) := dk_172 (dk_at dksX49_canBe_3 15 rfl rfl)
theorem dX49_canBe_84 : decode cX49_canBe 84 = .ok (.iconst 0, 1) := dk_3 (dk_at dksX49_canBe_3 16 rfl rfl)
theorem dX49_canBe_85 : decode cX49_canBe 85 = .ok (.ireturn, 1) := dk_172 (dk_at dksX49_canBe_3 17 rfl rfl)
abbrev cX49_isIn : ByteArray := prog_65_method_13_code
def yX49_isIn : MethodName := ⟨RX49, "isIn", "(JJ)Z"⟩
def dkwX49_isIn_0 : List UInt8 := [30, 9, 148, 155, 0, 13, 30, 32, 148, 157, 0, 7, 4, 167, 0, 4, 3, 172]
abbrev dktX49_isIn_0 : List UInt8 := dkwX49_isIn_0 ++ []
theorem dksX49_isIn_0 : cX49_isIn.data.toList.drop 0 = dktX49_isIn_0 := by decide +kernel
theorem dX49_isIn_0 : decode cX49_isIn 0 = .ok (.lload_n 0, 1) := dk_30 (dk_at dksX49_isIn_0 0 rfl rfl)
theorem dX49_isIn_1 : decode cX49_isIn 1 = .ok (.lconst 0, 1) := dk_9 (dk_at dksX49_isIn_0 1 rfl rfl)
theorem dX49_isIn_2 : decode cX49_isIn 2 = .ok (.lcmp, 1) := dk_148 (dk_at dksX49_isIn_0 2 rfl rfl)
theorem dX49_isIn_3 : decode cX49_isIn 3 = .ok (.ifCond .lt 13, 3) := dk_155 0 13 (dk_at dksX49_isIn_0 3 rfl rfl)
theorem dX49_isIn_6 : decode cX49_isIn 6 = .ok (.lload_n 0, 1) := dk_30 (dk_at dksX49_isIn_0 6 rfl rfl)
theorem dX49_isIn_7 : decode cX49_isIn 7 = .ok (.lload_n 2, 1) := dk_32 (dk_at dksX49_isIn_0 7 rfl rfl)
theorem dX49_isIn_8 : decode cX49_isIn 8 = .ok (.lcmp, 1) := dk_148 (dk_at dksX49_isIn_0 8 rfl rfl)
theorem dX49_isIn_9 : decode cX49_isIn 9 = .ok (.ifCond .gt 7, 3) := dk_157 0 7 (dk_at dksX49_isIn_0 9 rfl rfl)
theorem dX49_isIn_12 : decode cX49_isIn 12 = .ok (.iconst 1, 1) := dk_4 (dk_at dksX49_isIn_0 12 rfl rfl)
theorem dX49_isIn_13 : decode cX49_isIn 13 = .ok (.goto 4, 3) := dk_167 0 4 (dk_at dksX49_isIn_0 13 rfl rfl)
theorem dX49_isIn_16 : decode cX49_isIn 16 = .ok (.iconst 0, 1) := dk_3 (dk_at dksX49_isIn_0 16 rfl rfl)
theorem dX49_isIn_17 : decode cX49_isIn 17 = .ok (.ireturn, 1) := dk_172 (dk_at dksX49_isIn_0 17 rfl rfl)
abbrev cX49_dayOf : ByteArray := prog_65_method_15_code
def yX49_dayOf : MethodName := ⟨RX49, "dayOf", "(J)I"⟩
def dkwX49_dayOf_0 : List UInt8 := [30, 20, 0, 115, 109, 136, 172]
abbrev dktX49_dayOf_0 : List UInt8 := dkwX49_dayOf_0 ++ []
theorem dksX49_dayOf_0 : cX49_dayOf.data.toList.drop 0 = dktX49_dayOf_0 := by decide +kernel
theorem dX49_dayOf_0 : decode cX49_dayOf 0 = .ok (.lload_n 0, 1) := dk_30 (dk_at dksX49_dayOf_0 0 rfl rfl)
theorem dX49_dayOf_1 : decode cX49_dayOf 1 = .ok (.ldc2_w 115, 3) := dk_20 0 115 (dk_at dksX49_dayOf_0 1 rfl rfl)
theorem dX49_dayOf_4 : decode cX49_dayOf 4 = .ok (.ldiv, 1) := dk_109 (dk_at dksX49_dayOf_0 4 rfl rfl)
theorem dX49_dayOf_5 : decode cX49_dayOf 5 = .ok (.l2i, 1) := dk_136 (dk_at dksX49_dayOf_0 5 rfl rfl)
theorem dX49_dayOf_6 : decode cX49_dayOf 6 = .ok (.ireturn, 1) := dk_172 (dk_at dksX49_dayOf_0 6 rfl rfl)
abbrev cX49_open : ByteArray := prog_65_method_12_code
def yX49_open : MethodName := ⟨RX49, "open", "(II)I"⟩
def dkwX49_open_2 : List UInt8 := [180, 0, 25, 16, 9, 28, 104, 47, 7, 182, 0, 108, 172]
abbrev dktX49_open_2 : List UInt8 := dkwX49_open_2 ++ []
def dkwX49_open_1 : List UInt8 := [21, 4, 96, 3, 84, 132, 4, 1, 167, 255, 236, 42, 180, 0, 35, 29, 27, 145, 84, 42, 29, 4, 96, 42]
abbrev dktX49_open_1 : List UInt8 := dkwX49_open_1 ++ dktX49_open_2
def dkwX49_open_0 : List UInt8 := [16, 73, 42, 180, 0, 98, 104, 62, 3, 54, 4, 21, 4, 16, 73, 162, 0, 19, 42, 180, 0, 35, 29]
abbrev dktX49_open_0 : List UInt8 := dkwX49_open_0 ++ dktX49_open_1
theorem dksX49_open_0 : cX49_open.data.toList.drop 0 = dktX49_open_0 := by decide +kernel
theorem dksX49_open_1 : cX49_open.data.toList.drop 23 = dktX49_open_1 := dk_seg dksX49_open_0 23 rfl rfl
theorem dksX49_open_2 : cX49_open.data.toList.drop 47 = dktX49_open_2 := dk_seg dksX49_open_1 24 rfl rfl
theorem dX49_open_0 : decode cX49_open 0 = .ok (.bipush 73, 2) := dk_16 73 (dk_at dksX49_open_0 0 rfl rfl)
theorem dX49_open_2 : decode cX49_open 2 = .ok (.aload_n 0, 1) := dk_42 (dk_at dksX49_open_0 2 rfl rfl)
theorem dX49_open_3 : decode cX49_open 3 = .ok (.getfield 98, 3) := dk_180 0 98 (dk_at dksX49_open_0 3 rfl rfl)
theorem dX49_open_6 : decode cX49_open 6 = .ok (.imul, 1) := dk_104 (dk_at dksX49_open_0 6 rfl rfl)
theorem dX49_open_7 : decode cX49_open 7 = .ok (.istore_n 3, 1) := dk_62 (dk_at dksX49_open_0 7 rfl rfl)
theorem dX49_open_8 : decode cX49_open 8 = .ok (.iconst 0, 1) := dk_3 (dk_at dksX49_open_0 8 rfl rfl)
theorem dX49_open_9 : decode cX49_open 9 = .ok (.istore 4, 2) := dk_54 4 (dk_at dksX49_open_0 9 rfl rfl)
theorem dX49_open_11 : decode cX49_open 11 = .ok (.iload 4, 2) := dk_21 4 (dk_at dksX49_open_0 11 rfl rfl)
theorem dX49_open_13 : decode cX49_open 13 = .ok (.bipush 73, 2) := dk_16 73 (dk_at dksX49_open_0 13 rfl rfl)
theorem dX49_open_15 : decode cX49_open 15 = .ok (.if_icmp .ge 19, 3) := dk_162 0 19 (dk_at dksX49_open_0 15 rfl rfl)
theorem dX49_open_18 : decode cX49_open 18 = .ok (.aload_n 0, 1) := dk_42 (dk_at dksX49_open_0 18 rfl rfl)
theorem dX49_open_19 : decode cX49_open 19 = .ok (.getfield 35, 3) := dk_180 0 35 (dk_at dksX49_open_0 19 rfl rfl)
theorem dX49_open_22 : decode cX49_open 22 = .ok (.iload_n 3, 1) := dk_29 (dk_at dksX49_open_0 22 rfl rfl)
theorem dX49_open_23 : decode cX49_open 23 = .ok (.iload 4, 2) := dk_21 4 (dk_at dksX49_open_1 0 rfl rfl)
theorem dX49_open_25 : decode cX49_open 25 = .ok (.iadd, 1) := dk_96 (dk_at dksX49_open_1 2 rfl rfl)
theorem dX49_open_26 : decode cX49_open 26 = .ok (.iconst 0, 1) := dk_3 (dk_at dksX49_open_1 3 rfl rfl)
theorem dX49_open_27 : decode cX49_open 27 = .ok (.bastore, 1) := dk_84 (dk_at dksX49_open_1 4 rfl rfl)
theorem dX49_open_28 : decode cX49_open 28 = .ok (.iinc 4 1, 3) := dk_132 4 1 (dk_at dksX49_open_1 5 rfl rfl)
theorem dX49_open_31 : decode cX49_open 31 = .ok (.goto (-20), 3) := dk_167 255 236 (dk_at dksX49_open_1 8 rfl rfl)
theorem dX49_open_34 : decode cX49_open 34 = .ok (.aload_n 0, 1) := dk_42 (dk_at dksX49_open_1 11 rfl rfl)
theorem dX49_open_35 : decode cX49_open 35 = .ok (.getfield 35, 3) := dk_180 0 35 (dk_at dksX49_open_1 12 rfl rfl)
theorem dX49_open_38 : decode cX49_open 38 = .ok (.iload_n 3, 1) := dk_29 (dk_at dksX49_open_1 15 rfl rfl)
theorem dX49_open_39 : decode cX49_open 39 = .ok (.iload_n 1, 1) := dk_27 (dk_at dksX49_open_1 16 rfl rfl)
theorem dX49_open_40 : decode cX49_open 40 = .ok (.i2b, 1) := dk_145 (dk_at dksX49_open_1 17 rfl rfl)
theorem dX49_open_41 : decode cX49_open 41 = .ok (.bastore, 1) := dk_84 (dk_at dksX49_open_1 18 rfl rfl)
theorem dX49_open_42 : decode cX49_open 42 = .ok (.aload_n 0, 1) := dk_42 (dk_at dksX49_open_1 19 rfl rfl)
theorem dX49_open_43 : decode cX49_open 43 = .ok (.iload_n 3, 1) := dk_29 (dk_at dksX49_open_1 20 rfl rfl)
theorem dX49_open_44 : decode cX49_open 44 = .ok (.iconst 1, 1) := dk_4 (dk_at dksX49_open_1 21 rfl rfl)
theorem dX49_open_45 : decode cX49_open 45 = .ok (.iadd, 1) := dk_96 (dk_at dksX49_open_1 22 rfl rfl)
theorem dX49_open_46 : decode cX49_open 46 = .ok (.aload_n 0, 1) := dk_42 (dk_at dksX49_open_1 23 rfl rfl)
theorem dX49_open_47 : decode cX49_open 47 = .ok (.getfield 25, 3) := dk_180 0 25 (dk_at dksX49_open_2 0 rfl rfl)
theorem dX49_open_50 : decode cX49_open 50 = .ok (.bipush 9, 2) := dk_16 9 (dk_at dksX49_open_2 3 rfl rfl)
theorem dX49_open_52 : decode cX49_open 52 = .ok (.iload_n 2, 1) := dk_28 (dk_at dksX49_open_2 5 rfl rfl)
theorem dX49_open_53 : decode cX49_open 53 = .ok (.imul, 1) := dk_104 (dk_at dksX49_open_2 6 rfl rfl)
theorem dX49_open_54 : decode cX49_open 54 = .ok (.laload, 1) := dk_47 (dk_at dksX49_open_2 7 rfl rfl)
theorem dX49_open_55 : decode cX49_open 55 = .ok (.iconst 4, 1) := dk_7 (dk_at dksX49_open_2 8 rfl rfl)
theorem dX49_open_56 : decode cX49_open 56 = .ok (.invokevirtual 108, 3) := dk_182 0 108 (dk_at dksX49_open_2 9 rfl rfl)
theorem dX49_open_59 : decode cX49_open 59 = .ok (.ireturn, 1) := dk_172 (dk_at dksX49_open_2 12 rfl rfl)
abbrev cX49_write : ByteArray := prog_65_method_9_code
def yX49_write : MethodName := ⟨RX49, "write", "(IJI)I"⟩
def dkwX49_write_1 : List UInt8 := [100, 21, 5, 100, 104, 123, 136, 145, 84, 132, 5, 1, 167, 255, 223, 27, 21, 4, 96, 172]
abbrev dktX49_write_1 : List UInt8 := dkwX49_write_1 ++ []
def dkwX49_write_0 : List UInt8 := [3, 54, 5, 21, 5, 21, 4, 162, 0, 32, 42, 180, 0, 35, 27, 21, 5, 96, 32, 16, 8, 21, 4, 4]
abbrev dktX49_write_0 : List UInt8 := dkwX49_write_0 ++ dktX49_write_1
theorem dksX49_write_0 : cX49_write.data.toList.drop 0 = dktX49_write_0 := by decide +kernel
theorem dksX49_write_1 : cX49_write.data.toList.drop 24 = dktX49_write_1 := dk_seg dksX49_write_0 24 rfl rfl
theorem dX49_write_0 : decode cX49_write 0 = .ok (.iconst 0, 1) := dk_3 (dk_at dksX49_write_0 0 rfl rfl)
theorem dX49_write_1 : decode cX49_write 1 = .ok (.istore 5, 2) := dk_54 5 (dk_at dksX49_write_0 1 rfl rfl)
theorem dX49_write_3 : decode cX49_write 3 = .ok (.iload 5, 2) := dk_21 5 (dk_at dksX49_write_0 3 rfl rfl)
theorem dX49_write_5 : decode cX49_write 5 = .ok (.iload 4, 2) := dk_21 4 (dk_at dksX49_write_0 5 rfl rfl)
theorem dX49_write_7 : decode cX49_write 7 = .ok (.if_icmp .ge 32, 3) := dk_162 0 32 (dk_at dksX49_write_0 7 rfl rfl)
theorem dX49_write_10 : decode cX49_write 10 = .ok (.aload_n 0, 1) := dk_42 (dk_at dksX49_write_0 10 rfl rfl)
theorem dX49_write_11 : decode cX49_write 11 = .ok (.getfield 35, 3) := dk_180 0 35 (dk_at dksX49_write_0 11 rfl rfl)
theorem dX49_write_14 : decode cX49_write 14 = .ok (.iload_n 1, 1) := dk_27 (dk_at dksX49_write_0 14 rfl rfl)
theorem dX49_write_15 : decode cX49_write 15 = .ok (.iload 5, 2) := dk_21 5 (dk_at dksX49_write_0 15 rfl rfl)
theorem dX49_write_17 : decode cX49_write 17 = .ok (.iadd, 1) := dk_96 (dk_at dksX49_write_0 17 rfl rfl)
theorem dX49_write_18 : decode cX49_write 18 = .ok (.lload_n 2, 1) := dk_32 (dk_at dksX49_write_0 18 rfl rfl)
theorem dX49_write_19 : decode cX49_write 19 = .ok (.bipush 8, 2) := dk_16 8 (dk_at dksX49_write_0 19 rfl rfl)
theorem dX49_write_21 : decode cX49_write 21 = .ok (.iload 4, 2) := dk_21 4 (dk_at dksX49_write_0 21 rfl rfl)
theorem dX49_write_23 : decode cX49_write 23 = .ok (.iconst 1, 1) := dk_4 (dk_at dksX49_write_0 23 rfl rfl)
theorem dX49_write_24 : decode cX49_write 24 = .ok (.isub, 1) := dk_100 (dk_at dksX49_write_1 0 rfl rfl)
theorem dX49_write_25 : decode cX49_write 25 = .ok (.iload 5, 2) := dk_21 5 (dk_at dksX49_write_1 1 rfl rfl)
theorem dX49_write_27 : decode cX49_write 27 = .ok (.isub, 1) := dk_100 (dk_at dksX49_write_1 3 rfl rfl)
theorem dX49_write_28 : decode cX49_write 28 = .ok (.imul, 1) := dk_104 (dk_at dksX49_write_1 4 rfl rfl)
theorem dX49_write_29 : decode cX49_write 29 = .ok (.lshr, 1) := dk_123 (dk_at dksX49_write_1 5 rfl rfl)
theorem dX49_write_30 : decode cX49_write 30 = .ok (.l2i, 1) := dk_136 (dk_at dksX49_write_1 6 rfl rfl)
theorem dX49_write_31 : decode cX49_write 31 = .ok (.i2b, 1) := dk_145 (dk_at dksX49_write_1 7 rfl rfl)
theorem dX49_write_32 : decode cX49_write 32 = .ok (.bastore, 1) := dk_84 (dk_at dksX49_write_1 8 rfl rfl)
theorem dX49_write_33 : decode cX49_write 33 = .ok (.iinc 5 1, 3) := dk_132 5 1 (dk_at dksX49_write_1 9 rfl rfl)
theorem dX49_write_36 : decode cX49_write 36 = .ok (.goto (-33), 3) := dk_167 255 223 (dk_at dksX49_write_1 12 rfl rfl)
theorem dX49_write_39 : decode cX49_write 39 = .ok (.iload_n 1, 1) := dk_27 (dk_at dksX49_write_1 15 rfl rfl)
theorem dX49_write_40 : decode cX49_write 40 = .ok (.iload 4, 2) := dk_21 4 (dk_at dksX49_write_1 16 rfl rfl)
theorem dX49_write_42 : decode cX49_write 42 = .ok (.iadd, 1) := dk_96 (dk_at dksX49_write_1 18 rfl rfl)
theorem dX49_write_43 : decode cX49_write 43 = .ok (.ireturn, 1) := dk_172 (dk_at dksX49_write_1 19 rfl rfl)
abbrev cX49_close : ByteArray := prog_65_method_11_code
def yX49_close : MethodName := ⟨RX49, "close", "(I)I"⟩
def dkwX49_close_3 : List UInt8 := [89, 180, 0, 98, 4, 96, 181, 0, 98, 42, 180, 0, 98, 4, 100, 172]
abbrev dktX49_close_3 : List UInt8 := dkwX49_close_3 ++ []
def dkwX49_close_2 : List UInt8 := [180, 0, 39, 42, 180, 0, 98, 42, 180, 0, 25, 16, 9, 27, 104, 16, 6, 96, 47, 184, 0, 104, 79, 42]
abbrev dktX49_close_2 : List UInt8 := dkwX49_close_2 ++ dktX49_close_3
def dkwX49_close_1 : List UInt8 := [180, 0, 98, 104, 16, 41, 96, 28, 96, 42, 180, 0, 45, 28, 51, 84, 132, 2, 1, 167, 255, 224, 42]
abbrev dktX49_close_1 : List UInt8 := dkwX49_close_1 ++ dktX49_close_2
def dkwX49_close_0 : List UInt8 := [42, 42, 180, 0, 98, 182, 0, 101, 3, 61, 28, 16, 32, 162, 0, 32, 42, 180, 0, 35, 16, 73, 42]
abbrev dktX49_close_0 : List UInt8 := dkwX49_close_0 ++ dktX49_close_1
theorem dksX49_close_0 : cX49_close.data.toList.drop 0 = dktX49_close_0 := by decide +kernel
theorem dksX49_close_1 : cX49_close.data.toList.drop 23 = dktX49_close_1 := dk_seg dksX49_close_0 23 rfl rfl
theorem dksX49_close_2 : cX49_close.data.toList.drop 46 = dktX49_close_2 := dk_seg dksX49_close_1 23 rfl rfl
theorem dksX49_close_3 : cX49_close.data.toList.drop 70 = dktX49_close_3 := dk_seg dksX49_close_2 24 rfl rfl
theorem dX49_close_0 : decode cX49_close 0 = .ok (.aload_n 0, 1) := dk_42 (dk_at dksX49_close_0 0 rfl rfl)
theorem dX49_close_1 : decode cX49_close 1 = .ok (.aload_n 0, 1) := dk_42 (dk_at dksX49_close_0 1 rfl rfl)
theorem dX49_close_2 : decode cX49_close 2 = .ok (.getfield 98, 3) := dk_180 0 98 (dk_at dksX49_close_0 2 rfl rfl)
theorem dX49_close_5 : decode cX49_close 5 = .ok (.invokevirtual 101, 3) := dk_182 0 101 (dk_at dksX49_close_0 5 rfl rfl)
theorem dX49_close_8 : decode cX49_close 8 = .ok (.iconst 0, 1) := dk_3 (dk_at dksX49_close_0 8 rfl rfl)
theorem dX49_close_9 : decode cX49_close 9 = .ok (.istore_n 2, 1) := dk_61 (dk_at dksX49_close_0 9 rfl rfl)
theorem dX49_close_10 : decode cX49_close 10 = .ok (.iload_n 2, 1) := dk_28 (dk_at dksX49_close_0 10 rfl rfl)
theorem dX49_close_11 : decode cX49_close 11 = .ok (.bipush 32, 2) := dk_16 32 (dk_at dksX49_close_0 11 rfl rfl)
theorem dX49_close_13 : decode cX49_close 13 = .ok (.if_icmp .ge 32, 3) := dk_162 0 32 (dk_at dksX49_close_0 13 rfl rfl)
theorem dX49_close_16 : decode cX49_close 16 = .ok (.aload_n 0, 1) := dk_42 (dk_at dksX49_close_0 16 rfl rfl)
theorem dX49_close_17 : decode cX49_close 17 = .ok (.getfield 35, 3) := dk_180 0 35 (dk_at dksX49_close_0 17 rfl rfl)
theorem dX49_close_20 : decode cX49_close 20 = .ok (.bipush 73, 2) := dk_16 73 (dk_at dksX49_close_0 20 rfl rfl)
theorem dX49_close_22 : decode cX49_close 22 = .ok (.aload_n 0, 1) := dk_42 (dk_at dksX49_close_0 22 rfl rfl)
theorem dX49_close_23 : decode cX49_close 23 = .ok (.getfield 98, 3) := dk_180 0 98 (dk_at dksX49_close_1 0 rfl rfl)
theorem dX49_close_26 : decode cX49_close 26 = .ok (.imul, 1) := dk_104 (dk_at dksX49_close_1 3 rfl rfl)
theorem dX49_close_27 : decode cX49_close 27 = .ok (.bipush 41, 2) := dk_16 41 (dk_at dksX49_close_1 4 rfl rfl)
theorem dX49_close_29 : decode cX49_close 29 = .ok (.iadd, 1) := dk_96 (dk_at dksX49_close_1 6 rfl rfl)
theorem dX49_close_30 : decode cX49_close 30 = .ok (.iload_n 2, 1) := dk_28 (dk_at dksX49_close_1 7 rfl rfl)
theorem dX49_close_31 : decode cX49_close 31 = .ok (.iadd, 1) := dk_96 (dk_at dksX49_close_1 8 rfl rfl)
theorem dX49_close_32 : decode cX49_close 32 = .ok (.aload_n 0, 1) := dk_42 (dk_at dksX49_close_1 9 rfl rfl)
theorem dX49_close_33 : decode cX49_close 33 = .ok (.getfield 45, 3) := dk_180 0 45 (dk_at dksX49_close_1 10 rfl rfl)
theorem dX49_close_36 : decode cX49_close 36 = .ok (.iload_n 2, 1) := dk_28 (dk_at dksX49_close_1 13 rfl rfl)
theorem dX49_close_37 : decode cX49_close 37 = .ok (.baload, 1) := dk_51 (dk_at dksX49_close_1 14 rfl rfl)
theorem dX49_close_38 : decode cX49_close 38 = .ok (.bastore, 1) := dk_84 (dk_at dksX49_close_1 15 rfl rfl)
theorem dX49_close_39 : decode cX49_close 39 = .ok (.iinc 2 1, 3) := dk_132 2 1 (dk_at dksX49_close_1 16 rfl rfl)
theorem dX49_close_42 : decode cX49_close 42 = .ok (.goto (-32), 3) := dk_167 255 224 (dk_at dksX49_close_1 19 rfl rfl)
theorem dX49_close_45 : decode cX49_close 45 = .ok (.aload_n 0, 1) := dk_42 (dk_at dksX49_close_1 22 rfl rfl)
theorem dX49_close_46 : decode cX49_close 46 = .ok (.getfield 39, 3) := dk_180 0 39 (dk_at dksX49_close_2 0 rfl rfl)
theorem dX49_close_49 : decode cX49_close 49 = .ok (.aload_n 0, 1) := dk_42 (dk_at dksX49_close_2 3 rfl rfl)
theorem dX49_close_50 : decode cX49_close 50 = .ok (.getfield 98, 3) := dk_180 0 98 (dk_at dksX49_close_2 4 rfl rfl)
theorem dX49_close_53 : decode cX49_close 53 = .ok (.aload_n 0, 1) := dk_42 (dk_at dksX49_close_2 7 rfl rfl)
theorem dX49_close_54 : decode cX49_close 54 = .ok (.getfield 25, 3) := dk_180 0 25 (dk_at dksX49_close_2 8 rfl rfl)
theorem dX49_close_57 : decode cX49_close 57 = .ok (.bipush 9, 2) := dk_16 9 (dk_at dksX49_close_2 11 rfl rfl)
theorem dX49_close_59 : decode cX49_close 59 = .ok (.iload_n 1, 1) := dk_27 (dk_at dksX49_close_2 13 rfl rfl)
theorem dX49_close_60 : decode cX49_close 60 = .ok (.imul, 1) := dk_104 (dk_at dksX49_close_2 14 rfl rfl)
theorem dX49_close_61 : decode cX49_close 61 = .ok (.bipush 6, 2) := dk_16 6 (dk_at dksX49_close_2 15 rfl rfl)
theorem dX49_close_63 : decode cX49_close 63 = .ok (.iadd, 1) := dk_96 (dk_at dksX49_close_2 17 rfl rfl)
theorem dX49_close_64 : decode cX49_close 64 = .ok (.laload, 1) := dk_47 (dk_at dksX49_close_2 18 rfl rfl)
theorem dX49_close_65 : decode cX49_close 65 = .ok (.invokestatic 104, 3) := dk_184 0 104 (dk_at dksX49_close_2 19 rfl rfl)
theorem dX49_close_68 : decode cX49_close 68 = .ok (.iastore, 1) := dk_79 (dk_at dksX49_close_2 22 rfl rfl)
theorem dX49_close_69 : decode cX49_close 69 = .ok (.aload_n 0, 1) := dk_42 (dk_at dksX49_close_2 23 rfl rfl)
theorem dX49_close_70 : decode cX49_close 70 = .ok (.dup, 1) := dk_89 (dk_at dksX49_close_3 0 rfl rfl)
theorem dX49_close_71 : decode cX49_close 71 = .ok (.getfield 98, 3) := dk_180 0 98 (dk_at dksX49_close_3 1 rfl rfl)
theorem dX49_close_74 : decode cX49_close 74 = .ok (.iconst 1, 1) := dk_4 (dk_at dksX49_close_3 4 rfl rfl)
theorem dX49_close_75 : decode cX49_close 75 = .ok (.iadd, 1) := dk_96 (dk_at dksX49_close_3 5 rfl rfl)
theorem dX49_close_76 : decode cX49_close 76 = .ok (.putfield 98, 3) := dk_181 0 98 (dk_at dksX49_close_3 6 rfl rfl)
theorem dX49_close_79 : decode cX49_close 79 = .ok (.aload_n 0, 1) := dk_42 (dk_at dksX49_close_3 9 rfl rfl)
theorem dX49_close_80 : decode cX49_close 80 = .ok (.getfield 98, 3) := dk_180 0 98 (dk_at dksX49_close_3 10 rfl rfl)
theorem dX49_close_83 : decode cX49_close 83 = .ok (.iconst 1, 1) := dk_4 (dk_at dksX49_close_3 13 rfl rfl)
theorem dX49_close_84 : decode cX49_close 84 = .ok (.isub, 1) := dk_100 (dk_at dksX49_close_3 14 rfl rfl)
theorem dX49_close_85 : decode cX49_close 85 = .ok (.ireturn, 1) := dk_172 (dk_at dksX49_close_3 15 rfl rfl)
abbrev cX49_digestOf : ByteArray := prog_65_method_10_code
def yX49_digestOf : MethodName := ⟨RX49, "digestOf", "(I)V"⟩
def dkwX49_digestOf_3 : List UInt8 := [132, 2, 1, 167, 255, 232, 42, 182, 0, 95, 177]
abbrev dktX49_digestOf_3 : List UInt8 := dkwX49_digestOf_3 ++ []
def dkwX49_digestOf_2 : List UInt8 := [3, 61, 28, 16, 41, 162, 0, 24, 42, 42, 180, 0, 35, 16, 73, 27, 104, 28, 96, 51, 182, 0, 84]
abbrev dktX49_digestOf_2 : List UInt8 := dkwX49_digestOf_2 ++ dktX49_digestOf_3
def dkwX49_digestOf_1 : List UInt8 := [180, 0, 35, 16, 73, 27, 4, 100, 104, 16, 41, 96, 28, 96, 51, 182, 0, 84, 132, 2, 1, 167, 255, 219]
abbrev dktX49_digestOf_1 : List UInt8 := dkwX49_digestOf_1 ++ dktX49_digestOf_2
def dkwX49_digestOf_0 : List UInt8 := [42, 3, 181, 0, 81, 3, 61, 28, 16, 32, 162, 0, 37, 42, 27, 154, 0, 7, 3, 167, 0, 19, 42]
abbrev dktX49_digestOf_0 : List UInt8 := dkwX49_digestOf_0 ++ dktX49_digestOf_1
theorem dksX49_digestOf_0 : cX49_digestOf.data.toList.drop 0 = dktX49_digestOf_0 := by decide +kernel
theorem dksX49_digestOf_1 : cX49_digestOf.data.toList.drop 23 = dktX49_digestOf_1 := dk_seg dksX49_digestOf_0 23 rfl rfl
theorem dksX49_digestOf_2 : cX49_digestOf.data.toList.drop 47 = dktX49_digestOf_2 := dk_seg dksX49_digestOf_1 24 rfl rfl
theorem dksX49_digestOf_3 : cX49_digestOf.data.toList.drop 70 = dktX49_digestOf_3 := dk_seg dksX49_digestOf_2 23 rfl rfl
theorem dX49_digestOf_0 : decode cX49_digestOf 0 = .ok (.aload_n 0, 1) := dk_42 (dk_at dksX49_digestOf_0 0 rfl rfl)
theorem dX49_digestOf_1 : decode cX49_digestOf 1 = .ok (.iconst 0, 1) := dk_3 (dk_at dksX49_digestOf_0 1 rfl rfl)
theorem dX49_digestOf_2 : decode cX49_digestOf 2 = .ok (.putfield 81, 3) := dk_181 0 81 (dk_at dksX49_digestOf_0 2 rfl rfl)
theorem dX49_digestOf_5 : decode cX49_digestOf 5 = .ok (.iconst 0, 1) := dk_3 (dk_at dksX49_digestOf_0 5 rfl rfl)
theorem dX49_digestOf_6 : decode cX49_digestOf 6 = .ok (.istore_n 2, 1) := dk_61 (dk_at dksX49_digestOf_0 6 rfl rfl)
theorem dX49_digestOf_7 : decode cX49_digestOf 7 = .ok (.iload_n 2, 1) := dk_28 (dk_at dksX49_digestOf_0 7 rfl rfl)
theorem dX49_digestOf_8 : decode cX49_digestOf 8 = .ok (.bipush 32, 2) := dk_16 32 (dk_at dksX49_digestOf_0 8 rfl rfl)
theorem dX49_digestOf_10 : decode cX49_digestOf 10 = .ok (.if_icmp .ge 37, 3) := dk_162 0 37 (dk_at dksX49_digestOf_0 10 rfl rfl)
theorem dX49_digestOf_13 : decode cX49_digestOf 13 = .ok (.aload_n 0, 1) := dk_42 (dk_at dksX49_digestOf_0 13 rfl rfl)
theorem dX49_digestOf_14 : decode cX49_digestOf 14 = .ok (.iload_n 1, 1) := dk_27 (dk_at dksX49_digestOf_0 14 rfl rfl)
theorem dX49_digestOf_15 : decode cX49_digestOf 15 = .ok (.ifCond .ne 7, 3) := dk_154 0 7 (dk_at dksX49_digestOf_0 15 rfl rfl)
theorem dX49_digestOf_18 : decode cX49_digestOf 18 = .ok (.iconst 0, 1) := dk_3 (dk_at dksX49_digestOf_0 18 rfl rfl)
theorem dX49_digestOf_19 : decode cX49_digestOf 19 = .ok (.goto 19, 3) := dk_167 0 19 (dk_at dksX49_digestOf_0 19 rfl rfl)
theorem dX49_digestOf_22 : decode cX49_digestOf 22 = .ok (.aload_n 0, 1) := dk_42 (dk_at dksX49_digestOf_0 22 rfl rfl)
theorem dX49_digestOf_23 : decode cX49_digestOf 23 = .ok (.getfield 35, 3) := dk_180 0 35 (dk_at dksX49_digestOf_1 0 rfl rfl)
theorem dX49_digestOf_26 : decode cX49_digestOf 26 = .ok (.bipush 73, 2) := dk_16 73 (dk_at dksX49_digestOf_1 3 rfl rfl)
theorem dX49_digestOf_28 : decode cX49_digestOf 28 = .ok (.iload_n 1, 1) := dk_27 (dk_at dksX49_digestOf_1 5 rfl rfl)
theorem dX49_digestOf_29 : decode cX49_digestOf 29 = .ok (.iconst 1, 1) := dk_4 (dk_at dksX49_digestOf_1 6 rfl rfl)
theorem dX49_digestOf_30 : decode cX49_digestOf 30 = .ok (.isub, 1) := dk_100 (dk_at dksX49_digestOf_1 7 rfl rfl)
theorem dX49_digestOf_31 : decode cX49_digestOf 31 = .ok (.imul, 1) := dk_104 (dk_at dksX49_digestOf_1 8 rfl rfl)
theorem dX49_digestOf_32 : decode cX49_digestOf 32 = .ok (.bipush 41, 2) := dk_16 41 (dk_at dksX49_digestOf_1 9 rfl rfl)
theorem dX49_digestOf_34 : decode cX49_digestOf 34 = .ok (.iadd, 1) := dk_96 (dk_at dksX49_digestOf_1 11 rfl rfl)
theorem dX49_digestOf_35 : decode cX49_digestOf 35 = .ok (.iload_n 2, 1) := dk_28 (dk_at dksX49_digestOf_1 12 rfl rfl)
theorem dX49_digestOf_36 : decode cX49_digestOf 36 = .ok (.iadd, 1) := dk_96 (dk_at dksX49_digestOf_1 13 rfl rfl)
theorem dX49_digestOf_37 : decode cX49_digestOf 37 = .ok (.baload, 1) := dk_51 (dk_at dksX49_digestOf_1 14 rfl rfl)
theorem dX49_digestOf_38 : decode cX49_digestOf 38 = .ok (.invokevirtual 84, 3) := dk_182 0 84 (dk_at dksX49_digestOf_1 15 rfl rfl)
theorem dX49_digestOf_41 : decode cX49_digestOf 41 = .ok (.iinc 2 1, 3) := dk_132 2 1 (dk_at dksX49_digestOf_1 18 rfl rfl)
theorem dX49_digestOf_44 : decode cX49_digestOf 44 = .ok (.goto (-37), 3) := dk_167 255 219 (dk_at dksX49_digestOf_1 21 rfl rfl)
theorem dX49_digestOf_47 : decode cX49_digestOf 47 = .ok (.iconst 0, 1) := dk_3 (dk_at dksX49_digestOf_2 0 rfl rfl)
theorem dX49_digestOf_48 : decode cX49_digestOf 48 = .ok (.istore_n 2, 1) := dk_61 (dk_at dksX49_digestOf_2 1 rfl rfl)
theorem dX49_digestOf_49 : decode cX49_digestOf 49 = .ok (.iload_n 2, 1) := dk_28 (dk_at dksX49_digestOf_2 2 rfl rfl)
theorem dX49_digestOf_50 : decode cX49_digestOf 50 = .ok (.bipush 41, 2) := dk_16 41 (dk_at dksX49_digestOf_2 3 rfl rfl)
theorem dX49_digestOf_52 : decode cX49_digestOf 52 = .ok (.if_icmp .ge 24, 3) := dk_162 0 24 (dk_at dksX49_digestOf_2 5 rfl rfl)
theorem dX49_digestOf_55 : decode cX49_digestOf 55 = .ok (.aload_n 0, 1) := dk_42 (dk_at dksX49_digestOf_2 8 rfl rfl)
theorem dX49_digestOf_56 : decode cX49_digestOf 56 = .ok (.aload_n 0, 1) := dk_42 (dk_at dksX49_digestOf_2 9 rfl rfl)
theorem dX49_digestOf_57 : decode cX49_digestOf 57 = .ok (.getfield 35, 3) := dk_180 0 35 (dk_at dksX49_digestOf_2 10 rfl rfl)
theorem dX49_digestOf_60 : decode cX49_digestOf 60 = .ok (.bipush 73, 2) := dk_16 73 (dk_at dksX49_digestOf_2 13 rfl rfl)
theorem dX49_digestOf_62 : decode cX49_digestOf 62 = .ok (.iload_n 1, 1) := dk_27 (dk_at dksX49_digestOf_2 15 rfl rfl)
theorem dX49_digestOf_63 : decode cX49_digestOf 63 = .ok (.imul, 1) := dk_104 (dk_at dksX49_digestOf_2 16 rfl rfl)
theorem dX49_digestOf_64 : decode cX49_digestOf 64 = .ok (.iload_n 2, 1) := dk_28 (dk_at dksX49_digestOf_2 17 rfl rfl)
theorem dX49_digestOf_65 : decode cX49_digestOf 65 = .ok (.iadd, 1) := dk_96 (dk_at dksX49_digestOf_2 18 rfl rfl)
theorem dX49_digestOf_66 : decode cX49_digestOf 66 = .ok (.baload, 1) := dk_51 (dk_at dksX49_digestOf_2 19 rfl rfl)
theorem dX49_digestOf_67 : decode cX49_digestOf 67 = .ok (.invokevirtual 84, 3) := dk_182 0 84 (dk_at dksX49_digestOf_2 20 rfl rfl)
theorem dX49_digestOf_70 : decode cX49_digestOf 70 = .ok (.iinc 2 1, 3) := dk_132 2 1 (dk_at dksX49_digestOf_3 0 rfl rfl)
theorem dX49_digestOf_73 : decode cX49_digestOf 73 = .ok (.goto (-24), 3) := dk_167 255 232 (dk_at dksX49_digestOf_3 3 rfl rfl)
theorem dX49_digestOf_76 : decode cX49_digestOf 76 = .ok (.aload_n 0, 1) := dk_42 (dk_at dksX49_digestOf_3 6 rfl rfl)
theorem dX49_digestOf_77 : decode cX49_digestOf 77 = .ok (.invokevirtual 95, 3) := dk_182 0 95 (dk_at dksX49_digestOf_3 7 rfl rfl)
theorem dX49_digestOf_80 : decode cX49_digestOf 80 = .ok (.return_, 1) := dk_177 (dk_at dksX49_digestOf_3 10 rfl rfl)
abbrev cX49_lay : ByteArray := prog_65_method_6_code
def yX49_lay : MethodName := ⟨RX49, "lay", "(I)V"⟩
def dkwX49_lay_0 : List UInt8 := [42, 180, 0, 42, 42, 180, 0, 81, 27, 145, 84, 42, 89, 180, 0, 81, 4, 96, 181, 0, 81, 177]
abbrev dktX49_lay_0 : List UInt8 := dkwX49_lay_0 ++ []
theorem dksX49_lay_0 : cX49_lay.data.toList.drop 0 = dktX49_lay_0 := by decide +kernel
theorem dX49_lay_0 : decode cX49_lay 0 = .ok (.aload_n 0, 1) := dk_42 (dk_at dksX49_lay_0 0 rfl rfl)
theorem dX49_lay_1 : decode cX49_lay 1 = .ok (.getfield 42, 3) := dk_180 0 42 (dk_at dksX49_lay_0 1 rfl rfl)
theorem dX49_lay_4 : decode cX49_lay 4 = .ok (.aload_n 0, 1) := dk_42 (dk_at dksX49_lay_0 4 rfl rfl)
theorem dX49_lay_5 : decode cX49_lay 5 = .ok (.getfield 81, 3) := dk_180 0 81 (dk_at dksX49_lay_0 5 rfl rfl)
theorem dX49_lay_8 : decode cX49_lay 8 = .ok (.iload_n 1, 1) := dk_27 (dk_at dksX49_lay_0 8 rfl rfl)
theorem dX49_lay_9 : decode cX49_lay 9 = .ok (.i2b, 1) := dk_145 (dk_at dksX49_lay_0 9 rfl rfl)
theorem dX49_lay_10 : decode cX49_lay 10 = .ok (.bastore, 1) := dk_84 (dk_at dksX49_lay_0 10 rfl rfl)
theorem dX49_lay_11 : decode cX49_lay 11 = .ok (.aload_n 0, 1) := dk_42 (dk_at dksX49_lay_0 11 rfl rfl)
theorem dX49_lay_12 : decode cX49_lay 12 = .ok (.dup, 1) := dk_89 (dk_at dksX49_lay_0 12 rfl rfl)
theorem dX49_lay_13 : decode cX49_lay 13 = .ok (.getfield 81, 3) := dk_180 0 81 (dk_at dksX49_lay_0 13 rfl rfl)
theorem dX49_lay_16 : decode cX49_lay 16 = .ok (.iconst 1, 1) := dk_4 (dk_at dksX49_lay_0 16 rfl rfl)
theorem dX49_lay_17 : decode cX49_lay 17 = .ok (.iadd, 1) := dk_96 (dk_at dksX49_lay_0 17 rfl rfl)
theorem dX49_lay_18 : decode cX49_lay 18 = .ok (.putfield 81, 3) := dk_181 0 81 (dk_at dksX49_lay_0 18 rfl rfl)
theorem dX49_lay_21 : decode cX49_lay 21 = .ok (.return_, 1) := dk_177 (dk_at dksX49_lay_0 21 rfl rfl)
abbrev cX49_reckon : ByteArray := prog_65_method_7_code
def yX49_reckon : MethodName := ⟨RX49, "reckon", "()V"⟩
def dkwX49_reckon_6 : List UInt8 := [100, 122, 145, 84, 132, 2, 1, 167, 255, 222, 177]
abbrev dktX49_reckon_6 : List UInt8 := dkwX49_reckon_6 ++ []
def dkwX49_reckon_5 : List UInt8 := [162, 0, 34, 42, 180, 0, 45, 28, 42, 180, 0, 48, 28, 7, 108, 46, 16, 24, 16, 8, 28, 7, 112, 104]
abbrev dktX49_reckon_5 : List UInt8 := dkwX49_reckon_5 ++ dktX49_reckon_6
def dkwX49_reckon_4 : List UInt8 := [42, 180, 0, 81, 162, 0, 14, 42, 28, 182, 0, 88, 132, 2, 64, 167, 255, 240, 3, 61, 28, 16, 32]
abbrev dktX49_reckon_4 : List UInt8 := dkwX49_reckon_4 ++ dktX49_reckon_5
def dkwX49_reckon_3 : List UInt8 := [162, 0, 21, 42, 180, 0, 48, 28, 42, 180, 0, 13, 28, 46, 79, 132, 2, 1, 167, 255, 235, 3, 61, 28]
abbrev dktX49_reckon_3 : List UInt8 := dkwX49_reckon_3 ++ dktX49_reckon_4
def dkwX49_reckon_2 : List UInt8 := [3, 167, 0, 9, 27, 16, 8, 28, 104, 122, 182, 0, 84, 132, 2, 255, 167, 255, 230, 3, 61, 28, 16, 8]
abbrev dktX49_reckon_2 : List UInt8 := dkwX49_reckon_2 ++ dktX49_reckon_3
def dkwX49_reckon_1 : List UInt8 := [159, 0, 11, 42, 3, 182, 0, 84, 167, 255, 239, 16, 7, 61, 28, 155, 0, 28, 42, 28, 6, 164, 0, 7]
abbrev dktX49_reckon_1 : List UInt8 := dkwX49_reckon_1 ++ dktX49_reckon_2
def dkwX49_reckon_0 : List UInt8 := [16, 8, 42, 180, 0, 81, 104, 60, 42, 17, 0, 128, 182, 0, 84, 42, 180, 0, 81, 16, 64, 112, 16, 56]
abbrev dktX49_reckon_0 : List UInt8 := dkwX49_reckon_0 ++ dktX49_reckon_1
theorem dksX49_reckon_0 : cX49_reckon.data.toList.drop 0 = dktX49_reckon_0 := by decide +kernel
theorem dksX49_reckon_1 : cX49_reckon.data.toList.drop 24 = dktX49_reckon_1 := dk_seg dksX49_reckon_0 24 rfl rfl
theorem dksX49_reckon_2 : cX49_reckon.data.toList.drop 48 = dktX49_reckon_2 := dk_seg dksX49_reckon_1 24 rfl rfl
theorem dksX49_reckon_3 : cX49_reckon.data.toList.drop 72 = dktX49_reckon_3 := dk_seg dksX49_reckon_2 24 rfl rfl
theorem dksX49_reckon_4 : cX49_reckon.data.toList.drop 96 = dktX49_reckon_4 := dk_seg dksX49_reckon_3 24 rfl rfl
theorem dksX49_reckon_5 : cX49_reckon.data.toList.drop 119 = dktX49_reckon_5 := dk_seg dksX49_reckon_4 23 rfl rfl
theorem dksX49_reckon_6 : cX49_reckon.data.toList.drop 143 = dktX49_reckon_6 := dk_seg dksX49_reckon_5 24 rfl rfl
theorem dX49_reckon_0 : decode cX49_reckon 0 = .ok (.bipush 8, 2) := dk_16 8 (dk_at dksX49_reckon_0 0 rfl rfl)
theorem dX49_reckon_2 : decode cX49_reckon 2 = .ok (.aload_n 0, 1) := dk_42 (dk_at dksX49_reckon_0 2 rfl rfl)
theorem dX49_reckon_3 : decode cX49_reckon 3 = .ok (.getfield 81, 3) := dk_180 0 81 (dk_at dksX49_reckon_0 3 rfl rfl)
theorem dX49_reckon_6 : decode cX49_reckon 6 = .ok (.imul, 1) := dk_104 (dk_at dksX49_reckon_0 6 rfl rfl)
theorem dX49_reckon_7 : decode cX49_reckon 7 = .ok (.istore_n 1, 1) := dk_60 (dk_at dksX49_reckon_0 7 rfl rfl)
theorem dX49_reckon_8 : decode cX49_reckon 8 = .ok (.aload_n 0, 1) := dk_42 (dk_at dksX49_reckon_0 8 rfl rfl)
theorem dX49_reckon_9 : decode cX49_reckon 9 = .ok (.sipush 128, 3) := dk_17 0 128 (dk_at dksX49_reckon_0 9 rfl rfl)
theorem dX49_reckon_12 : decode cX49_reckon 12 = .ok (.invokevirtual 84, 3) := dk_182 0 84 (dk_at dksX49_reckon_0 12 rfl rfl)
theorem dX49_reckon_15 : decode cX49_reckon 15 = .ok (.aload_n 0, 1) := dk_42 (dk_at dksX49_reckon_0 15 rfl rfl)
theorem dX49_reckon_16 : decode cX49_reckon 16 = .ok (.getfield 81, 3) := dk_180 0 81 (dk_at dksX49_reckon_0 16 rfl rfl)
theorem dX49_reckon_19 : decode cX49_reckon 19 = .ok (.bipush 64, 2) := dk_16 64 (dk_at dksX49_reckon_0 19 rfl rfl)
theorem dX49_reckon_21 : decode cX49_reckon 21 = .ok (.irem, 1) := dk_112 (dk_at dksX49_reckon_0 21 rfl rfl)
theorem dX49_reckon_22 : decode cX49_reckon 22 = .ok (.bipush 56, 2) := dk_16 56 (dk_at dksX49_reckon_0 22 rfl rfl)
theorem dX49_reckon_24 : decode cX49_reckon 24 = .ok (.if_icmp .eq 11, 3) := dk_159 0 11 (dk_at dksX49_reckon_1 0 rfl rfl)
theorem dX49_reckon_27 : decode cX49_reckon 27 = .ok (.aload_n 0, 1) := dk_42 (dk_at dksX49_reckon_1 3 rfl rfl)
theorem dX49_reckon_28 : decode cX49_reckon 28 = .ok (.iconst 0, 1) := dk_3 (dk_at dksX49_reckon_1 4 rfl rfl)
theorem dX49_reckon_29 : decode cX49_reckon 29 = .ok (.invokevirtual 84, 3) := dk_182 0 84 (dk_at dksX49_reckon_1 5 rfl rfl)
theorem dX49_reckon_32 : decode cX49_reckon 32 = .ok (.goto (-17), 3) := dk_167 255 239 (dk_at dksX49_reckon_1 8 rfl rfl)
theorem dX49_reckon_35 : decode cX49_reckon 35 = .ok (.bipush 7, 2) := dk_16 7 (dk_at dksX49_reckon_1 11 rfl rfl)
theorem dX49_reckon_37 : decode cX49_reckon 37 = .ok (.istore_n 2, 1) := dk_61 (dk_at dksX49_reckon_1 13 rfl rfl)
theorem dX49_reckon_38 : decode cX49_reckon 38 = .ok (.iload_n 2, 1) := dk_28 (dk_at dksX49_reckon_1 14 rfl rfl)
theorem dX49_reckon_39 : decode cX49_reckon 39 = .ok (.ifCond .lt 28, 3) := dk_155 0 28 (dk_at dksX49_reckon_1 15 rfl rfl)
theorem dX49_reckon_42 : decode cX49_reckon 42 = .ok (.aload_n 0, 1) := dk_42 (dk_at dksX49_reckon_1 18 rfl rfl)
theorem dX49_reckon_43 : decode cX49_reckon 43 = .ok (.iload_n 2, 1) := dk_28 (dk_at dksX49_reckon_1 19 rfl rfl)
theorem dX49_reckon_44 : decode cX49_reckon 44 = .ok (.iconst 3, 1) := dk_6 (dk_at dksX49_reckon_1 20 rfl rfl)
theorem dX49_reckon_45 : decode cX49_reckon 45 = .ok (.if_icmp .le 7, 3) := dk_164 0 7 (dk_at dksX49_reckon_1 21 rfl rfl)
theorem dX49_reckon_48 : decode cX49_reckon 48 = .ok (.iconst 0, 1) := dk_3 (dk_at dksX49_reckon_2 0 rfl rfl)
theorem dX49_reckon_49 : decode cX49_reckon 49 = .ok (.goto 9, 3) := dk_167 0 9 (dk_at dksX49_reckon_2 1 rfl rfl)
theorem dX49_reckon_52 : decode cX49_reckon 52 = .ok (.iload_n 1, 1) := dk_27 (dk_at dksX49_reckon_2 4 rfl rfl)
theorem dX49_reckon_53 : decode cX49_reckon 53 = .ok (.bipush 8, 2) := dk_16 8 (dk_at dksX49_reckon_2 5 rfl rfl)
theorem dX49_reckon_55 : decode cX49_reckon 55 = .ok (.iload_n 2, 1) := dk_28 (dk_at dksX49_reckon_2 7 rfl rfl)
theorem dX49_reckon_56 : decode cX49_reckon 56 = .ok (.imul, 1) := dk_104 (dk_at dksX49_reckon_2 8 rfl rfl)
theorem dX49_reckon_57 : decode cX49_reckon 57 = .ok (.ishr, 1) := dk_122 (dk_at dksX49_reckon_2 9 rfl rfl)
theorem dX49_reckon_58 : decode cX49_reckon 58 = .ok (.invokevirtual 84, 3) := dk_182 0 84 (dk_at dksX49_reckon_2 10 rfl rfl)
theorem dX49_reckon_61 : decode cX49_reckon 61 = .ok (.iinc 2 (-1), 3) := dk_132 2 255 (dk_at dksX49_reckon_2 13 rfl rfl)
theorem dX49_reckon_64 : decode cX49_reckon 64 = .ok (.goto (-26), 3) := dk_167 255 230 (dk_at dksX49_reckon_2 16 rfl rfl)
theorem dX49_reckon_67 : decode cX49_reckon 67 = .ok (.iconst 0, 1) := dk_3 (dk_at dksX49_reckon_2 19 rfl rfl)
theorem dX49_reckon_68 : decode cX49_reckon 68 = .ok (.istore_n 2, 1) := dk_61 (dk_at dksX49_reckon_2 20 rfl rfl)
theorem dX49_reckon_69 : decode cX49_reckon 69 = .ok (.iload_n 2, 1) := dk_28 (dk_at dksX49_reckon_2 21 rfl rfl)
theorem dX49_reckon_70 : decode cX49_reckon 70 = .ok (.bipush 8, 2) := dk_16 8 (dk_at dksX49_reckon_2 22 rfl rfl)
theorem dX49_reckon_72 : decode cX49_reckon 72 = .ok (.if_icmp .ge 21, 3) := dk_162 0 21 (dk_at dksX49_reckon_3 0 rfl rfl)
theorem dX49_reckon_75 : decode cX49_reckon 75 = .ok (.aload_n 0, 1) := dk_42 (dk_at dksX49_reckon_3 3 rfl rfl)
theorem dX49_reckon_76 : decode cX49_reckon 76 = .ok (.getfield 48, 3) := dk_180 0 48 (dk_at dksX49_reckon_3 4 rfl rfl)
theorem dX49_reckon_79 : decode cX49_reckon 79 = .ok (.iload_n 2, 1) := dk_28 (dk_at dksX49_reckon_3 7 rfl rfl)
theorem dX49_reckon_80 : decode cX49_reckon 80 = .ok (.aload_n 0, 1) := dk_42 (dk_at dksX49_reckon_3 8 rfl rfl)
theorem dX49_reckon_81 : decode cX49_reckon 81 = .ok (.getfield 13, 3) := dk_180 0 13 (dk_at dksX49_reckon_3 9 rfl rfl)
theorem dX49_reckon_84 : decode cX49_reckon 84 = .ok (.iload_n 2, 1) := dk_28 (dk_at dksX49_reckon_3 12 rfl rfl)
theorem dX49_reckon_85 : decode cX49_reckon 85 = .ok (.iaload, 1) := dk_46 (dk_at dksX49_reckon_3 13 rfl rfl)
theorem dX49_reckon_86 : decode cX49_reckon 86 = .ok (.iastore, 1) := dk_79 (dk_at dksX49_reckon_3 14 rfl rfl)
theorem dX49_reckon_87 : decode cX49_reckon 87 = .ok (.iinc 2 1, 3) := dk_132 2 1 (dk_at dksX49_reckon_3 15 rfl rfl)
theorem dX49_reckon_90 : decode cX49_reckon 90 = .ok (.goto (-21), 3) := dk_167 255 235 (dk_at dksX49_reckon_3 18 rfl rfl)
theorem dX49_reckon_93 : decode cX49_reckon 93 = .ok (.iconst 0, 1) := dk_3 (dk_at dksX49_reckon_3 21 rfl rfl)
theorem dX49_reckon_94 : decode cX49_reckon 94 = .ok (.istore_n 2, 1) := dk_61 (dk_at dksX49_reckon_3 22 rfl rfl)
theorem dX49_reckon_95 : decode cX49_reckon 95 = .ok (.iload_n 2, 1) := dk_28 (dk_at dksX49_reckon_3 23 rfl rfl)
theorem dX49_reckon_96 : decode cX49_reckon 96 = .ok (.aload_n 0, 1) := dk_42 (dk_at dksX49_reckon_4 0 rfl rfl)
theorem dX49_reckon_97 : decode cX49_reckon 97 = .ok (.getfield 81, 3) := dk_180 0 81 (dk_at dksX49_reckon_4 1 rfl rfl)
theorem dX49_reckon_100 : decode cX49_reckon 100 = .ok (.if_icmp .ge 14, 3) := dk_162 0 14 (dk_at dksX49_reckon_4 4 rfl rfl)
theorem dX49_reckon_103 : decode cX49_reckon 103 = .ok (.aload_n 0, 1) := dk_42 (dk_at dksX49_reckon_4 7 rfl rfl)
theorem dX49_reckon_104 : decode cX49_reckon 104 = .ok (.iload_n 2, 1) := dk_28 (dk_at dksX49_reckon_4 8 rfl rfl)
theorem dX49_reckon_105 : decode cX49_reckon 105 = .ok (.invokevirtual 88, 3) := dk_182 0 88 (dk_at dksX49_reckon_4 9 rfl rfl)
theorem dX49_reckon_108 : decode cX49_reckon 108 = .ok (.iinc 2 64, 3) := dk_132 2 64 (dk_at dksX49_reckon_4 12 rfl rfl)
theorem dX49_reckon_111 : decode cX49_reckon 111 = .ok (.goto (-16), 3) := dk_167 255 240 (dk_at dksX49_reckon_4 15 rfl rfl)
theorem dX49_reckon_114 : decode cX49_reckon 114 = .ok (.iconst 0, 1) := dk_3 (dk_at dksX49_reckon_4 18 rfl rfl)
theorem dX49_reckon_115 : decode cX49_reckon 115 = .ok (.istore_n 2, 1) := dk_61 (dk_at dksX49_reckon_4 19 rfl rfl)
theorem dX49_reckon_116 : decode cX49_reckon 116 = .ok (.iload_n 2, 1) := dk_28 (dk_at dksX49_reckon_4 20 rfl rfl)
theorem dX49_reckon_117 : decode cX49_reckon 117 = .ok (.bipush 32, 2) := dk_16 32 (dk_at dksX49_reckon_4 21 rfl rfl)
theorem dX49_reckon_119 : decode cX49_reckon 119 = .ok (.if_icmp .ge 34, 3) := dk_162 0 34 (dk_at dksX49_reckon_5 0 rfl rfl)
theorem dX49_reckon_122 : decode cX49_reckon 122 = .ok (.aload_n 0, 1) := dk_42 (dk_at dksX49_reckon_5 3 rfl rfl)
theorem dX49_reckon_123 : decode cX49_reckon 123 = .ok (.getfield 45, 3) := dk_180 0 45 (dk_at dksX49_reckon_5 4 rfl rfl)
theorem dX49_reckon_126 : decode cX49_reckon 126 = .ok (.iload_n 2, 1) := dk_28 (dk_at dksX49_reckon_5 7 rfl rfl)
theorem dX49_reckon_127 : decode cX49_reckon 127 = .ok (.aload_n 0, 1) := dk_42 (dk_at dksX49_reckon_5 8 rfl rfl)
theorem dX49_reckon_128 : decode cX49_reckon 128 = .ok (.getfield 48, 3) := dk_180 0 48 (dk_at dksX49_reckon_5 9 rfl rfl)
theorem dX49_reckon_131 : decode cX49_reckon 131 = .ok (.iload_n 2, 1) := dk_28 (dk_at dksX49_reckon_5 12 rfl rfl)
theorem dX49_reckon_132 : decode cX49_reckon 132 = .ok (.iconst 4, 1) := dk_7 (dk_at dksX49_reckon_5 13 rfl rfl)
theorem dX49_reckon_133 : decode cX49_reckon 133 = .ok (.idiv, 1) := dk_108 (dk_at dksX49_reckon_5 14 rfl rfl)
theorem dX49_reckon_134 : decode cX49_reckon 134 = .ok (.iaload, 1) := dk_46 (dk_at dksX49_reckon_5 15 rfl rfl)
theorem dX49_reckon_135 : decode cX49_reckon 135 = .ok (.bipush 24, 2) := dk_16 24 (dk_at dksX49_reckon_5 16 rfl rfl)
theorem dX49_reckon_137 : decode cX49_reckon 137 = .ok (.bipush 8, 2) := dk_16 8 (dk_at dksX49_reckon_5 18 rfl rfl)
theorem dX49_reckon_139 : decode cX49_reckon 139 = .ok (.iload_n 2, 1) := dk_28 (dk_at dksX49_reckon_5 20 rfl rfl)
theorem dX49_reckon_140 : decode cX49_reckon 140 = .ok (.iconst 4, 1) := dk_7 (dk_at dksX49_reckon_5 21 rfl rfl)
theorem dX49_reckon_141 : decode cX49_reckon 141 = .ok (.irem, 1) := dk_112 (dk_at dksX49_reckon_5 22 rfl rfl)
theorem dX49_reckon_142 : decode cX49_reckon 142 = .ok (.imul, 1) := dk_104 (dk_at dksX49_reckon_5 23 rfl rfl)
theorem dX49_reckon_143 : decode cX49_reckon 143 = .ok (.isub, 1) := dk_100 (dk_at dksX49_reckon_6 0 rfl rfl)
theorem dX49_reckon_144 : decode cX49_reckon 144 = .ok (.ishr, 1) := dk_122 (dk_at dksX49_reckon_6 1 rfl rfl)
theorem dX49_reckon_145 : decode cX49_reckon 145 = .ok (.i2b, 1) := dk_145 (dk_at dksX49_reckon_6 2 rfl rfl)
theorem dX49_reckon_146 : decode cX49_reckon 146 = .ok (.bastore, 1) := dk_84 (dk_at dksX49_reckon_6 3 rfl rfl)
theorem dX49_reckon_147 : decode cX49_reckon 147 = .ok (.iinc 2 1, 3) := dk_132 2 1 (dk_at dksX49_reckon_6 4 rfl rfl)
theorem dX49_reckon_150 : decode cX49_reckon 150 = .ok (.goto (-34), 3) := dk_167 255 222 (dk_at dksX49_reckon_6 7 rfl rfl)
theorem dX49_reckon_153 : decode cX49_reckon 153 = .ok (.return_, 1) := dk_177 (dk_at dksX49_reckon_6 10 rfl rfl)
abbrev cX49_mix : ByteArray := prog_65_method_8_code
def yX49_mix : MethodName := ⟨RX49, "mix", "(I)V"⟩
def dkwX49_mix_18 : List UInt8 := [132, 2, 1, 167, 255, 228, 177]
abbrev dktX49_mix_18 : List UInt8 := dkwX49_mix_18 ++ []
def dkwX49_mix_17 : List UInt8 := [16, 8, 162, 0, 28, 42, 180, 0, 48, 28, 42, 180, 0, 48, 28, 46, 42, 180, 0, 51, 28, 46, 96, 79]
abbrev dktX49_mix_17 : List UInt8 := dkwX49_mix_17 ++ dktX49_mix_18
def dkwX49_mix_16 : List UInt8 := [21, 5, 96, 79, 42, 180, 0, 51, 3, 21, 5, 21, 6, 96, 79, 132, 2, 1, 167, 255, 52, 3, 61, 28]
abbrev dktX49_mix_16 : List UInt8 := dkwX49_mix_16 ++ dktX49_mix_17
def dkwX49_mix_15 : List UInt8 := [21, 7, 4, 100, 46, 79, 132, 7, 255, 167, 255, 232, 42, 180, 0, 51, 7, 42, 180, 0, 51, 7, 46]
abbrev dktX49_mix_15 : List UInt8 := dkwX49_mix_15 ++ dktX49_mix_16
def dkwX49_mix_14 : List UInt8 := [130, 96, 54, 6, 16, 7, 54, 7, 21, 7, 158, 0, 25, 42, 180, 0, 51, 21, 7, 42, 180, 0, 51]
abbrev dktX49_mix_14 : List UInt8 := dkwX49_mix_14 ++ dktX49_mix_15
def dkwX49_mix_13 : List UInt8 := [126, 21, 4, 42, 180, 0, 51, 5, 46, 126, 130, 42, 180, 0, 51, 4, 46, 42, 180, 0, 51, 5, 46, 126]
abbrev dktX49_mix_13 : List UInt8 := dkwX49_mix_13 ++ dktX49_mix_14
def dkwX49_mix_12 : List UInt8 := [21, 4, 16, 13, 184, 0, 91, 130, 21, 4, 16, 22, 184, 0, 91, 130, 21, 4, 42, 180, 0, 51, 4, 46]
abbrev dktX49_mix_12 : List UInt8 := dkwX49_mix_12 ++ dktX49_mix_13
def dkwX49_mix_11 : List UInt8 := [130, 96, 42, 180, 0, 7, 28, 46, 96, 42, 180, 0, 54, 28, 46, 96, 54, 5, 21, 4, 5, 184, 0, 91]
abbrev dktX49_mix_11 : List UInt8 := dkwX49_mix_11 ++ dktX49_mix_12
def dkwX49_mix_10 : List UInt8 := [184, 0, 91, 130, 96, 29, 42, 180, 0, 51, 8, 46, 126, 29, 2, 130, 42, 180, 0, 51, 16, 6, 46, 126]
abbrev dktX49_mix_10 : List UInt8 := dkwX49_mix_10 ++ dktX49_mix_11
def dkwX49_mix_9 : List UInt8 := [180, 0, 51, 16, 7, 46, 29, 16, 6, 184, 0, 91, 29, 16, 11, 184, 0, 91, 130, 29, 16, 25]
abbrev dktX49_mix_9 : List UInt8 := dkwX49_mix_9 ++ dktX49_mix_10
def dkwX49_mix_8 : List UInt8 := [61, 28, 16, 64, 162, 0, 204, 42, 180, 0, 51, 7, 46, 62, 42, 180, 0, 51, 3, 46, 54, 4, 42]
abbrev dktX49_mix_8 : List UInt8 := dkwX49_mix_8 ++ dktX49_mix_9
def dkwX49_mix_7 : List UInt8 := [16, 8, 162, 0, 21, 42, 180, 0, 51, 28, 42, 180, 0, 48, 28, 46, 79, 132, 2, 1, 167, 255, 235, 3]
abbrev dktX49_mix_7 : List UInt8 := dkwX49_mix_7 ++ dktX49_mix_8
def dkwX49_mix_6 : List UInt8 := [124, 130, 96, 42, 180, 0, 54, 28, 16, 16, 100, 46, 96, 79, 132, 2, 1, 167, 255, 100, 3, 61, 28]
abbrev dktX49_mix_6 : List UInt8 := dkwX49_mix_6 ++ dktX49_mix_7
def dkwX49_mix_5 : List UInt8 := [180, 0, 54, 28, 16, 7, 100, 46, 96, 29, 16, 7, 184, 0, 91, 29, 16, 18, 184, 0, 91, 130, 29, 6]
abbrev dktX49_mix_5 : List UInt8 := dkwX49_mix_5 ++ dktX49_mix_6
def dkwX49_mix_4 : List UInt8 := [21, 4, 16, 17, 184, 0, 91, 21, 4, 16, 19, 184, 0, 91, 130, 21, 4, 16, 10, 124, 130, 42]
abbrev dktX49_mix_4 : List UInt8 := dkwX49_mix_4 ++ dktX49_mix_5
def dkwX49_mix_3 : List UInt8 := [180, 0, 54, 28, 16, 15, 100, 46, 62, 42, 180, 0, 54, 28, 5, 100, 46, 54, 4, 42, 180, 0, 54, 28]
abbrev dktX49_mix_3 : List UInt8 := dkwX49_mix_3 ++ dktX49_mix_4
def dkwX49_mix_2 : List UInt8 := [7, 28, 104, 96, 29, 96, 51, 17, 0, 255, 126, 96, 79, 132, 3, 1, 167, 255, 215, 167, 0, 88, 42]
abbrev dktX49_mix_2 : List UInt8 := dkwX49_mix_2 ++ dktX49_mix_3
def dkwX49_mix_1 : List UInt8 := [7, 162, 0, 42, 42, 180, 0, 54, 28, 42, 180, 0, 54, 28, 46, 17, 1, 0, 104, 42, 180, 0, 42, 27]
abbrev dktX49_mix_1 : List UInt8 := dkwX49_mix_1 ++ dktX49_mix_2
def dkwX49_mix_0 : List UInt8 := [3, 61, 28, 16, 64, 162, 0, 156, 28, 16, 16, 162, 0, 59, 42, 180, 0, 54, 28, 3, 79, 3, 62, 29]
abbrev dktX49_mix_0 : List UInt8 := dkwX49_mix_0 ++ dktX49_mix_1
theorem dksX49_mix_0 : cX49_mix.data.toList.drop 0 = dktX49_mix_0 := by decide +kernel
theorem dksX49_mix_1 : cX49_mix.data.toList.drop 24 = dktX49_mix_1 := dk_seg dksX49_mix_0 24 rfl rfl
theorem dksX49_mix_2 : cX49_mix.data.toList.drop 48 = dktX49_mix_2 := dk_seg dksX49_mix_1 24 rfl rfl
theorem dksX49_mix_3 : cX49_mix.data.toList.drop 71 = dktX49_mix_3 := dk_seg dksX49_mix_2 23 rfl rfl
theorem dksX49_mix_4 : cX49_mix.data.toList.drop 95 = dktX49_mix_4 := dk_seg dksX49_mix_3 24 rfl rfl
theorem dksX49_mix_5 : cX49_mix.data.toList.drop 117 = dktX49_mix_5 := dk_seg dksX49_mix_4 22 rfl rfl
theorem dksX49_mix_6 : cX49_mix.data.toList.drop 141 = dktX49_mix_6 := dk_seg dksX49_mix_5 24 rfl rfl
theorem dksX49_mix_7 : cX49_mix.data.toList.drop 164 = dktX49_mix_7 := dk_seg dksX49_mix_6 23 rfl rfl
theorem dksX49_mix_8 : cX49_mix.data.toList.drop 188 = dktX49_mix_8 := dk_seg dksX49_mix_7 24 rfl rfl
theorem dksX49_mix_9 : cX49_mix.data.toList.drop 211 = dktX49_mix_9 := dk_seg dksX49_mix_8 23 rfl rfl
theorem dksX49_mix_10 : cX49_mix.data.toList.drop 233 = dktX49_mix_10 := dk_seg dksX49_mix_9 22 rfl rfl
theorem dksX49_mix_11 : cX49_mix.data.toList.drop 257 = dktX49_mix_11 := dk_seg dksX49_mix_10 24 rfl rfl
theorem dksX49_mix_12 : cX49_mix.data.toList.drop 281 = dktX49_mix_12 := dk_seg dksX49_mix_11 24 rfl rfl
theorem dksX49_mix_13 : cX49_mix.data.toList.drop 305 = dktX49_mix_13 := dk_seg dksX49_mix_12 24 rfl rfl
theorem dksX49_mix_14 : cX49_mix.data.toList.drop 329 = dktX49_mix_14 := dk_seg dksX49_mix_13 24 rfl rfl
theorem dksX49_mix_15 : cX49_mix.data.toList.drop 352 = dktX49_mix_15 := dk_seg dksX49_mix_14 23 rfl rfl
theorem dksX49_mix_16 : cX49_mix.data.toList.drop 375 = dktX49_mix_16 := dk_seg dksX49_mix_15 23 rfl rfl
theorem dksX49_mix_17 : cX49_mix.data.toList.drop 399 = dktX49_mix_17 := dk_seg dksX49_mix_16 24 rfl rfl
theorem dksX49_mix_18 : cX49_mix.data.toList.drop 423 = dktX49_mix_18 := dk_seg dksX49_mix_17 24 rfl rfl
theorem dX49_mix_0 : decode cX49_mix 0 = .ok (.iconst 0, 1) := dk_3 (dk_at dksX49_mix_0 0 rfl rfl)
theorem dX49_mix_1 : decode cX49_mix 1 = .ok (.istore_n 2, 1) := dk_61 (dk_at dksX49_mix_0 1 rfl rfl)
theorem dX49_mix_2 : decode cX49_mix 2 = .ok (.iload_n 2, 1) := dk_28 (dk_at dksX49_mix_0 2 rfl rfl)
theorem dX49_mix_3 : decode cX49_mix 3 = .ok (.bipush 64, 2) := dk_16 64 (dk_at dksX49_mix_0 3 rfl rfl)
theorem dX49_mix_5 : decode cX49_mix 5 = .ok (.if_icmp .ge 156, 3) := dk_162 0 156 (dk_at dksX49_mix_0 5 rfl rfl)
theorem dX49_mix_8 : decode cX49_mix 8 = .ok (.iload_n 2, 1) := dk_28 (dk_at dksX49_mix_0 8 rfl rfl)
theorem dX49_mix_9 : decode cX49_mix 9 = .ok (.bipush 16, 2) := dk_16 16 (dk_at dksX49_mix_0 9 rfl rfl)
theorem dX49_mix_11 : decode cX49_mix 11 = .ok (.if_icmp .ge 59, 3) := dk_162 0 59 (dk_at dksX49_mix_0 11 rfl rfl)
theorem dX49_mix_14 : decode cX49_mix 14 = .ok (.aload_n 0, 1) := dk_42 (dk_at dksX49_mix_0 14 rfl rfl)
theorem dX49_mix_15 : decode cX49_mix 15 = .ok (.getfield 54, 3) := dk_180 0 54 (dk_at dksX49_mix_0 15 rfl rfl)
theorem dX49_mix_18 : decode cX49_mix 18 = .ok (.iload_n 2, 1) := dk_28 (dk_at dksX49_mix_0 18 rfl rfl)
theorem dX49_mix_19 : decode cX49_mix 19 = .ok (.iconst 0, 1) := dk_3 (dk_at dksX49_mix_0 19 rfl rfl)
theorem dX49_mix_20 : decode cX49_mix 20 = .ok (.iastore, 1) := dk_79 (dk_at dksX49_mix_0 20 rfl rfl)
theorem dX49_mix_21 : decode cX49_mix 21 = .ok (.iconst 0, 1) := dk_3 (dk_at dksX49_mix_0 21 rfl rfl)
theorem dX49_mix_22 : decode cX49_mix 22 = .ok (.istore_n 3, 1) := dk_62 (dk_at dksX49_mix_0 22 rfl rfl)
theorem dX49_mix_23 : decode cX49_mix 23 = .ok (.iload_n 3, 1) := dk_29 (dk_at dksX49_mix_0 23 rfl rfl)
theorem dX49_mix_24 : decode cX49_mix 24 = .ok (.iconst 4, 1) := dk_7 (dk_at dksX49_mix_1 0 rfl rfl)
theorem dX49_mix_25 : decode cX49_mix 25 = .ok (.if_icmp .ge 42, 3) := dk_162 0 42 (dk_at dksX49_mix_1 1 rfl rfl)
theorem dX49_mix_28 : decode cX49_mix 28 = .ok (.aload_n 0, 1) := dk_42 (dk_at dksX49_mix_1 4 rfl rfl)
theorem dX49_mix_29 : decode cX49_mix 29 = .ok (.getfield 54, 3) := dk_180 0 54 (dk_at dksX49_mix_1 5 rfl rfl)
theorem dX49_mix_32 : decode cX49_mix 32 = .ok (.iload_n 2, 1) := dk_28 (dk_at dksX49_mix_1 8 rfl rfl)
theorem dX49_mix_33 : decode cX49_mix 33 = .ok (.aload_n 0, 1) := dk_42 (dk_at dksX49_mix_1 9 rfl rfl)
theorem dX49_mix_34 : decode cX49_mix 34 = .ok (.getfield 54, 3) := dk_180 0 54 (dk_at dksX49_mix_1 10 rfl rfl)
theorem dX49_mix_37 : decode cX49_mix 37 = .ok (.iload_n 2, 1) := dk_28 (dk_at dksX49_mix_1 13 rfl rfl)
theorem dX49_mix_38 : decode cX49_mix 38 = .ok (.iaload, 1) := dk_46 (dk_at dksX49_mix_1 14 rfl rfl)
theorem dX49_mix_39 : decode cX49_mix 39 = .ok (.sipush 256, 3) := dk_17 1 0 (dk_at dksX49_mix_1 15 rfl rfl)
theorem dX49_mix_42 : decode cX49_mix 42 = .ok (.imul, 1) := dk_104 (dk_at dksX49_mix_1 18 rfl rfl)
theorem dX49_mix_43 : decode cX49_mix 43 = .ok (.aload_n 0, 1) := dk_42 (dk_at dksX49_mix_1 19 rfl rfl)
theorem dX49_mix_44 : decode cX49_mix 44 = .ok (.getfield 42, 3) := dk_180 0 42 (dk_at dksX49_mix_1 20 rfl rfl)
theorem dX49_mix_47 : decode cX49_mix 47 = .ok (.iload_n 1, 1) := dk_27 (dk_at dksX49_mix_1 23 rfl rfl)
theorem dX49_mix_48 : decode cX49_mix 48 = .ok (.iconst 4, 1) := dk_7 (dk_at dksX49_mix_2 0 rfl rfl)
theorem dX49_mix_49 : decode cX49_mix 49 = .ok (.iload_n 2, 1) := dk_28 (dk_at dksX49_mix_2 1 rfl rfl)
theorem dX49_mix_50 : decode cX49_mix 50 = .ok (.imul, 1) := dk_104 (dk_at dksX49_mix_2 2 rfl rfl)
theorem dX49_mix_51 : decode cX49_mix 51 = .ok (.iadd, 1) := dk_96 (dk_at dksX49_mix_2 3 rfl rfl)
theorem dX49_mix_52 : decode cX49_mix 52 = .ok (.iload_n 3, 1) := dk_29 (dk_at dksX49_mix_2 4 rfl rfl)
theorem dX49_mix_53 : decode cX49_mix 53 = .ok (.iadd, 1) := dk_96 (dk_at dksX49_mix_2 5 rfl rfl)
theorem dX49_mix_54 : decode cX49_mix 54 = .ok (.baload, 1) := dk_51 (dk_at dksX49_mix_2 6 rfl rfl)
theorem dX49_mix_55 : decode cX49_mix 55 = .ok (.sipush 255, 3) := dk_17 0 255 (dk_at dksX49_mix_2 7 rfl rfl)
theorem dX49_mix_58 : decode cX49_mix 58 = .ok (.iand, 1) := dk_126 (dk_at dksX49_mix_2 10 rfl rfl)
theorem dX49_mix_59 : decode cX49_mix 59 = .ok (.iadd, 1) := dk_96 (dk_at dksX49_mix_2 11 rfl rfl)
theorem dX49_mix_60 : decode cX49_mix 60 = .ok (.iastore, 1) := dk_79 (dk_at dksX49_mix_2 12 rfl rfl)
theorem dX49_mix_61 : decode cX49_mix 61 = .ok (.iinc 3 1, 3) := dk_132 3 1 (dk_at dksX49_mix_2 13 rfl rfl)
theorem dX49_mix_64 : decode cX49_mix 64 = .ok (.goto (-41), 3) := dk_167 255 215 (dk_at dksX49_mix_2 16 rfl rfl)
theorem dX49_mix_67 : decode cX49_mix 67 = .ok (.goto 88, 3) := dk_167 0 88 (dk_at dksX49_mix_2 19 rfl rfl)
theorem dX49_mix_70 : decode cX49_mix 70 = .ok (.aload_n 0, 1) := dk_42 (dk_at dksX49_mix_2 22 rfl rfl)
theorem dX49_mix_71 : decode cX49_mix 71 = .ok (.getfield 54, 3) := dk_180 0 54 (dk_at dksX49_mix_3 0 rfl rfl)
theorem dX49_mix_74 : decode cX49_mix 74 = .ok (.iload_n 2, 1) := dk_28 (dk_at dksX49_mix_3 3 rfl rfl)
theorem dX49_mix_75 : decode cX49_mix 75 = .ok (.bipush 15, 2) := dk_16 15 (dk_at dksX49_mix_3 4 rfl rfl)
theorem dX49_mix_77 : decode cX49_mix 77 = .ok (.isub, 1) := dk_100 (dk_at dksX49_mix_3 6 rfl rfl)
theorem dX49_mix_78 : decode cX49_mix 78 = .ok (.iaload, 1) := dk_46 (dk_at dksX49_mix_3 7 rfl rfl)
theorem dX49_mix_79 : decode cX49_mix 79 = .ok (.istore_n 3, 1) := dk_62 (dk_at dksX49_mix_3 8 rfl rfl)
theorem dX49_mix_80 : decode cX49_mix 80 = .ok (.aload_n 0, 1) := dk_42 (dk_at dksX49_mix_3 9 rfl rfl)
theorem dX49_mix_81 : decode cX49_mix 81 = .ok (.getfield 54, 3) := dk_180 0 54 (dk_at dksX49_mix_3 10 rfl rfl)
theorem dX49_mix_84 : decode cX49_mix 84 = .ok (.iload_n 2, 1) := dk_28 (dk_at dksX49_mix_3 13 rfl rfl)
theorem dX49_mix_85 : decode cX49_mix 85 = .ok (.iconst 2, 1) := dk_5 (dk_at dksX49_mix_3 14 rfl rfl)
theorem dX49_mix_86 : decode cX49_mix 86 = .ok (.isub, 1) := dk_100 (dk_at dksX49_mix_3 15 rfl rfl)
theorem dX49_mix_87 : decode cX49_mix 87 = .ok (.iaload, 1) := dk_46 (dk_at dksX49_mix_3 16 rfl rfl)
theorem dX49_mix_88 : decode cX49_mix 88 = .ok (.istore 4, 2) := dk_54 4 (dk_at dksX49_mix_3 17 rfl rfl)
theorem dX49_mix_90 : decode cX49_mix 90 = .ok (.aload_n 0, 1) := dk_42 (dk_at dksX49_mix_3 19 rfl rfl)
theorem dX49_mix_91 : decode cX49_mix 91 = .ok (.getfield 54, 3) := dk_180 0 54 (dk_at dksX49_mix_3 20 rfl rfl)
theorem dX49_mix_94 : decode cX49_mix 94 = .ok (.iload_n 2, 1) := dk_28 (dk_at dksX49_mix_3 23 rfl rfl)
theorem dX49_mix_95 : decode cX49_mix 95 = .ok (.iload 4, 2) := dk_21 4 (dk_at dksX49_mix_4 0 rfl rfl)
theorem dX49_mix_97 : decode cX49_mix 97 = .ok (.bipush 17, 2) := dk_16 17 (dk_at dksX49_mix_4 2 rfl rfl)
theorem dX49_mix_99 : decode cX49_mix 99 = .ok (.invokestatic 91, 3) := dk_184 0 91 (dk_at dksX49_mix_4 4 rfl rfl)
theorem dX49_mix_102 : decode cX49_mix 102 = .ok (.iload 4, 2) := dk_21 4 (dk_at dksX49_mix_4 7 rfl rfl)
theorem dX49_mix_104 : decode cX49_mix 104 = .ok (.bipush 19, 2) := dk_16 19 (dk_at dksX49_mix_4 9 rfl rfl)
theorem dX49_mix_106 : decode cX49_mix 106 = .ok (.invokestatic 91, 3) := dk_184 0 91 (dk_at dksX49_mix_4 11 rfl rfl)
theorem dX49_mix_109 : decode cX49_mix 109 = .ok (.ixor, 1) := dk_130 (dk_at dksX49_mix_4 14 rfl rfl)
theorem dX49_mix_110 : decode cX49_mix 110 = .ok (.iload 4, 2) := dk_21 4 (dk_at dksX49_mix_4 15 rfl rfl)
theorem dX49_mix_112 : decode cX49_mix 112 = .ok (.bipush 10, 2) := dk_16 10 (dk_at dksX49_mix_4 17 rfl rfl)
theorem dX49_mix_114 : decode cX49_mix 114 = .ok (.iushr, 1) := dk_124 (dk_at dksX49_mix_4 19 rfl rfl)
theorem dX49_mix_115 : decode cX49_mix 115 = .ok (.ixor, 1) := dk_130 (dk_at dksX49_mix_4 20 rfl rfl)
theorem dX49_mix_116 : decode cX49_mix 116 = .ok (.aload_n 0, 1) := dk_42 (dk_at dksX49_mix_4 21 rfl rfl)
theorem dX49_mix_117 : decode cX49_mix 117 = .ok (.getfield 54, 3) := dk_180 0 54 (dk_at dksX49_mix_5 0 rfl rfl)
theorem dX49_mix_120 : decode cX49_mix 120 = .ok (.iload_n 2, 1) := dk_28 (dk_at dksX49_mix_5 3 rfl rfl)
theorem dX49_mix_121 : decode cX49_mix 121 = .ok (.bipush 7, 2) := dk_16 7 (dk_at dksX49_mix_5 4 rfl rfl)
theorem dX49_mix_123 : decode cX49_mix 123 = .ok (.isub, 1) := dk_100 (dk_at dksX49_mix_5 6 rfl rfl)
theorem dX49_mix_124 : decode cX49_mix 124 = .ok (.iaload, 1) := dk_46 (dk_at dksX49_mix_5 7 rfl rfl)
theorem dX49_mix_125 : decode cX49_mix 125 = .ok (.iadd, 1) := dk_96 (dk_at dksX49_mix_5 8 rfl rfl)
theorem dX49_mix_126 : decode cX49_mix 126 = .ok (.iload_n 3, 1) := dk_29 (dk_at dksX49_mix_5 9 rfl rfl)
theorem dX49_mix_127 : decode cX49_mix 127 = .ok (.bipush 7, 2) := dk_16 7 (dk_at dksX49_mix_5 10 rfl rfl)
theorem dX49_mix_129 : decode cX49_mix 129 = .ok (.invokestatic 91, 3) := dk_184 0 91 (dk_at dksX49_mix_5 12 rfl rfl)
theorem dX49_mix_132 : decode cX49_mix 132 = .ok (.iload_n 3, 1) := dk_29 (dk_at dksX49_mix_5 15 rfl rfl)
theorem dX49_mix_133 : decode cX49_mix 133 = .ok (.bipush 18, 2) := dk_16 18 (dk_at dksX49_mix_5 16 rfl rfl)
theorem dX49_mix_135 : decode cX49_mix 135 = .ok (.invokestatic 91, 3) := dk_184 0 91 (dk_at dksX49_mix_5 18 rfl rfl)
theorem dX49_mix_138 : decode cX49_mix 138 = .ok (.ixor, 1) := dk_130 (dk_at dksX49_mix_5 21 rfl rfl)
theorem dX49_mix_139 : decode cX49_mix 139 = .ok (.iload_n 3, 1) := dk_29 (dk_at dksX49_mix_5 22 rfl rfl)
theorem dX49_mix_140 : decode cX49_mix 140 = .ok (.iconst 3, 1) := dk_6 (dk_at dksX49_mix_5 23 rfl rfl)
theorem dX49_mix_141 : decode cX49_mix 141 = .ok (.iushr, 1) := dk_124 (dk_at dksX49_mix_6 0 rfl rfl)
theorem dX49_mix_142 : decode cX49_mix 142 = .ok (.ixor, 1) := dk_130 (dk_at dksX49_mix_6 1 rfl rfl)
theorem dX49_mix_143 : decode cX49_mix 143 = .ok (.iadd, 1) := dk_96 (dk_at dksX49_mix_6 2 rfl rfl)
theorem dX49_mix_144 : decode cX49_mix 144 = .ok (.aload_n 0, 1) := dk_42 (dk_at dksX49_mix_6 3 rfl rfl)
theorem dX49_mix_145 : decode cX49_mix 145 = .ok (.getfield 54, 3) := dk_180 0 54 (dk_at dksX49_mix_6 4 rfl rfl)
theorem dX49_mix_148 : decode cX49_mix 148 = .ok (.iload_n 2, 1) := dk_28 (dk_at dksX49_mix_6 7 rfl rfl)
theorem dX49_mix_149 : decode cX49_mix 149 = .ok (.bipush 16, 2) := dk_16 16 (dk_at dksX49_mix_6 8 rfl rfl)
theorem dX49_mix_151 : decode cX49_mix 151 = .ok (.isub, 1) := dk_100 (dk_at dksX49_mix_6 10 rfl rfl)
theorem dX49_mix_152 : decode cX49_mix 152 = .ok (.iaload, 1) := dk_46 (dk_at dksX49_mix_6 11 rfl rfl)
theorem dX49_mix_153 : decode cX49_mix 153 = .ok (.iadd, 1) := dk_96 (dk_at dksX49_mix_6 12 rfl rfl)
theorem dX49_mix_154 : decode cX49_mix 154 = .ok (.iastore, 1) := dk_79 (dk_at dksX49_mix_6 13 rfl rfl)
theorem dX49_mix_155 : decode cX49_mix 155 = .ok (.iinc 2 1, 3) := dk_132 2 1 (dk_at dksX49_mix_6 14 rfl rfl)
theorem dX49_mix_158 : decode cX49_mix 158 = .ok (.goto (-156), 3) := dk_167 255 100 (dk_at dksX49_mix_6 17 rfl rfl)
theorem dX49_mix_161 : decode cX49_mix 161 = .ok (.iconst 0, 1) := dk_3 (dk_at dksX49_mix_6 20 rfl rfl)
theorem dX49_mix_162 : decode cX49_mix 162 = .ok (.istore_n 2, 1) := dk_61 (dk_at dksX49_mix_6 21 rfl rfl)
theorem dX49_mix_163 : decode cX49_mix 163 = .ok (.iload_n 2, 1) := dk_28 (dk_at dksX49_mix_6 22 rfl rfl)
theorem dX49_mix_164 : decode cX49_mix 164 = .ok (.bipush 8, 2) := dk_16 8 (dk_at dksX49_mix_7 0 rfl rfl)
theorem dX49_mix_166 : decode cX49_mix 166 = .ok (.if_icmp .ge 21, 3) := dk_162 0 21 (dk_at dksX49_mix_7 2 rfl rfl)
theorem dX49_mix_169 : decode cX49_mix 169 = .ok (.aload_n 0, 1) := dk_42 (dk_at dksX49_mix_7 5 rfl rfl)
theorem dX49_mix_170 : decode cX49_mix 170 = .ok (.getfield 51, 3) := dk_180 0 51 (dk_at dksX49_mix_7 6 rfl rfl)
theorem dX49_mix_173 : decode cX49_mix 173 = .ok (.iload_n 2, 1) := dk_28 (dk_at dksX49_mix_7 9 rfl rfl)
theorem dX49_mix_174 : decode cX49_mix 174 = .ok (.aload_n 0, 1) := dk_42 (dk_at dksX49_mix_7 10 rfl rfl)
theorem dX49_mix_175 : decode cX49_mix 175 = .ok (.getfield 48, 3) := dk_180 0 48 (dk_at dksX49_mix_7 11 rfl rfl)
theorem dX49_mix_178 : decode cX49_mix 178 = .ok (.iload_n 2, 1) := dk_28 (dk_at dksX49_mix_7 14 rfl rfl)
theorem dX49_mix_179 : decode cX49_mix 179 = .ok (.iaload, 1) := dk_46 (dk_at dksX49_mix_7 15 rfl rfl)
theorem dX49_mix_180 : decode cX49_mix 180 = .ok (.iastore, 1) := dk_79 (dk_at dksX49_mix_7 16 rfl rfl)
theorem dX49_mix_181 : decode cX49_mix 181 = .ok (.iinc 2 1, 3) := dk_132 2 1 (dk_at dksX49_mix_7 17 rfl rfl)
theorem dX49_mix_184 : decode cX49_mix 184 = .ok (.goto (-21), 3) := dk_167 255 235 (dk_at dksX49_mix_7 20 rfl rfl)
theorem dX49_mix_187 : decode cX49_mix 187 = .ok (.iconst 0, 1) := dk_3 (dk_at dksX49_mix_7 23 rfl rfl)
theorem dX49_mix_188 : decode cX49_mix 188 = .ok (.istore_n 2, 1) := dk_61 (dk_at dksX49_mix_8 0 rfl rfl)
theorem dX49_mix_189 : decode cX49_mix 189 = .ok (.iload_n 2, 1) := dk_28 (dk_at dksX49_mix_8 1 rfl rfl)
theorem dX49_mix_190 : decode cX49_mix 190 = .ok (.bipush 64, 2) := dk_16 64 (dk_at dksX49_mix_8 2 rfl rfl)
theorem dX49_mix_192 : decode cX49_mix 192 = .ok (.if_icmp .ge 204, 3) := dk_162 0 204 (dk_at dksX49_mix_8 4 rfl rfl)
theorem dX49_mix_195 : decode cX49_mix 195 = .ok (.aload_n 0, 1) := dk_42 (dk_at dksX49_mix_8 7 rfl rfl)
theorem dX49_mix_196 : decode cX49_mix 196 = .ok (.getfield 51, 3) := dk_180 0 51 (dk_at dksX49_mix_8 8 rfl rfl)
theorem dX49_mix_199 : decode cX49_mix 199 = .ok (.iconst 4, 1) := dk_7 (dk_at dksX49_mix_8 11 rfl rfl)
theorem dX49_mix_200 : decode cX49_mix 200 = .ok (.iaload, 1) := dk_46 (dk_at dksX49_mix_8 12 rfl rfl)
theorem dX49_mix_201 : decode cX49_mix 201 = .ok (.istore_n 3, 1) := dk_62 (dk_at dksX49_mix_8 13 rfl rfl)
theorem dX49_mix_202 : decode cX49_mix 202 = .ok (.aload_n 0, 1) := dk_42 (dk_at dksX49_mix_8 14 rfl rfl)
theorem dX49_mix_203 : decode cX49_mix 203 = .ok (.getfield 51, 3) := dk_180 0 51 (dk_at dksX49_mix_8 15 rfl rfl)
theorem dX49_mix_206 : decode cX49_mix 206 = .ok (.iconst 0, 1) := dk_3 (dk_at dksX49_mix_8 18 rfl rfl)
theorem dX49_mix_207 : decode cX49_mix 207 = .ok (.iaload, 1) := dk_46 (dk_at dksX49_mix_8 19 rfl rfl)
theorem dX49_mix_208 : decode cX49_mix 208 = .ok (.istore 4, 2) := dk_54 4 (dk_at dksX49_mix_8 20 rfl rfl)
theorem dX49_mix_210 : decode cX49_mix 210 = .ok (.aload_n 0, 1) := dk_42 (dk_at dksX49_mix_8 22 rfl rfl)
theorem dX49_mix_211 : decode cX49_mix 211 = .ok (.getfield 51, 3) := dk_180 0 51 (dk_at dksX49_mix_9 0 rfl rfl)
theorem dX49_mix_214 : decode cX49_mix 214 = .ok (.bipush 7, 2) := dk_16 7 (dk_at dksX49_mix_9 3 rfl rfl)
theorem dX49_mix_216 : decode cX49_mix 216 = .ok (.iaload, 1) := dk_46 (dk_at dksX49_mix_9 5 rfl rfl)
theorem dX49_mix_217 : decode cX49_mix 217 = .ok (.iload_n 3, 1) := dk_29 (dk_at dksX49_mix_9 6 rfl rfl)
theorem dX49_mix_218 : decode cX49_mix 218 = .ok (.bipush 6, 2) := dk_16 6 (dk_at dksX49_mix_9 7 rfl rfl)
theorem dX49_mix_220 : decode cX49_mix 220 = .ok (.invokestatic 91, 3) := dk_184 0 91 (dk_at dksX49_mix_9 9 rfl rfl)
theorem dX49_mix_223 : decode cX49_mix 223 = .ok (.iload_n 3, 1) := dk_29 (dk_at dksX49_mix_9 12 rfl rfl)
theorem dX49_mix_224 : decode cX49_mix 224 = .ok (.bipush 11, 2) := dk_16 11 (dk_at dksX49_mix_9 13 rfl rfl)
theorem dX49_mix_226 : decode cX49_mix 226 = .ok (.invokestatic 91, 3) := dk_184 0 91 (dk_at dksX49_mix_9 15 rfl rfl)
theorem dX49_mix_229 : decode cX49_mix 229 = .ok (.ixor, 1) := dk_130 (dk_at dksX49_mix_9 18 rfl rfl)
theorem dX49_mix_230 : decode cX49_mix 230 = .ok (.iload_n 3, 1) := dk_29 (dk_at dksX49_mix_9 19 rfl rfl)
theorem dX49_mix_231 : decode cX49_mix 231 = .ok (.bipush 25, 2) := dk_16 25 (dk_at dksX49_mix_9 20 rfl rfl)
theorem dX49_mix_233 : decode cX49_mix 233 = .ok (.invokestatic 91, 3) := dk_184 0 91 (dk_at dksX49_mix_10 0 rfl rfl)
theorem dX49_mix_236 : decode cX49_mix 236 = .ok (.ixor, 1) := dk_130 (dk_at dksX49_mix_10 3 rfl rfl)
theorem dX49_mix_237 : decode cX49_mix 237 = .ok (.iadd, 1) := dk_96 (dk_at dksX49_mix_10 4 rfl rfl)
theorem dX49_mix_238 : decode cX49_mix 238 = .ok (.iload_n 3, 1) := dk_29 (dk_at dksX49_mix_10 5 rfl rfl)
theorem dX49_mix_239 : decode cX49_mix 239 = .ok (.aload_n 0, 1) := dk_42 (dk_at dksX49_mix_10 6 rfl rfl)
theorem dX49_mix_240 : decode cX49_mix 240 = .ok (.getfield 51, 3) := dk_180 0 51 (dk_at dksX49_mix_10 7 rfl rfl)
theorem dX49_mix_243 : decode cX49_mix 243 = .ok (.iconst 5, 1) := dk_8 (dk_at dksX49_mix_10 10 rfl rfl)
theorem dX49_mix_244 : decode cX49_mix 244 = .ok (.iaload, 1) := dk_46 (dk_at dksX49_mix_10 11 rfl rfl)
theorem dX49_mix_245 : decode cX49_mix 245 = .ok (.iand, 1) := dk_126 (dk_at dksX49_mix_10 12 rfl rfl)
theorem dX49_mix_246 : decode cX49_mix 246 = .ok (.iload_n 3, 1) := dk_29 (dk_at dksX49_mix_10 13 rfl rfl)
theorem dX49_mix_247 : decode cX49_mix 247 = .ok (.iconst (-1), 1) := dk_2 (dk_at dksX49_mix_10 14 rfl rfl)
theorem dX49_mix_248 : decode cX49_mix 248 = .ok (.ixor, 1) := dk_130 (dk_at dksX49_mix_10 15 rfl rfl)
theorem dX49_mix_249 : decode cX49_mix 249 = .ok (.aload_n 0, 1) := dk_42 (dk_at dksX49_mix_10 16 rfl rfl)
theorem dX49_mix_250 : decode cX49_mix 250 = .ok (.getfield 51, 3) := dk_180 0 51 (dk_at dksX49_mix_10 17 rfl rfl)
theorem dX49_mix_253 : decode cX49_mix 253 = .ok (.bipush 6, 2) := dk_16 6 (dk_at dksX49_mix_10 20 rfl rfl)
theorem dX49_mix_255 : decode cX49_mix 255 = .ok (.iaload, 1) := dk_46 (dk_at dksX49_mix_10 22 rfl rfl)
theorem dX49_mix_256 : decode cX49_mix 256 = .ok (.iand, 1) := dk_126 (dk_at dksX49_mix_10 23 rfl rfl)
theorem dX49_mix_257 : decode cX49_mix 257 = .ok (.ixor, 1) := dk_130 (dk_at dksX49_mix_11 0 rfl rfl)
theorem dX49_mix_258 : decode cX49_mix 258 = .ok (.iadd, 1) := dk_96 (dk_at dksX49_mix_11 1 rfl rfl)
theorem dX49_mix_259 : decode cX49_mix 259 = .ok (.aload_n 0, 1) := dk_42 (dk_at dksX49_mix_11 2 rfl rfl)
theorem dX49_mix_260 : decode cX49_mix 260 = .ok (.getfield 7, 3) := dk_180 0 7 (dk_at dksX49_mix_11 3 rfl rfl)
theorem dX49_mix_263 : decode cX49_mix 263 = .ok (.iload_n 2, 1) := dk_28 (dk_at dksX49_mix_11 6 rfl rfl)
theorem dX49_mix_264 : decode cX49_mix 264 = .ok (.iaload, 1) := dk_46 (dk_at dksX49_mix_11 7 rfl rfl)
theorem dX49_mix_265 : decode cX49_mix 265 = .ok (.iadd, 1) := dk_96 (dk_at dksX49_mix_11 8 rfl rfl)
theorem dX49_mix_266 : decode cX49_mix 266 = .ok (.aload_n 0, 1) := dk_42 (dk_at dksX49_mix_11 9 rfl rfl)
theorem dX49_mix_267 : decode cX49_mix 267 = .ok (.getfield 54, 3) := dk_180 0 54 (dk_at dksX49_mix_11 10 rfl rfl)
theorem dX49_mix_270 : decode cX49_mix 270 = .ok (.iload_n 2, 1) := dk_28 (dk_at dksX49_mix_11 13 rfl rfl)
theorem dX49_mix_271 : decode cX49_mix 271 = .ok (.iaload, 1) := dk_46 (dk_at dksX49_mix_11 14 rfl rfl)
theorem dX49_mix_272 : decode cX49_mix 272 = .ok (.iadd, 1) := dk_96 (dk_at dksX49_mix_11 15 rfl rfl)
theorem dX49_mix_273 : decode cX49_mix 273 = .ok (.istore 5, 2) := dk_54 5 (dk_at dksX49_mix_11 16 rfl rfl)
theorem dX49_mix_275 : decode cX49_mix 275 = .ok (.iload 4, 2) := dk_21 4 (dk_at dksX49_mix_11 18 rfl rfl)
theorem dX49_mix_277 : decode cX49_mix 277 = .ok (.iconst 2, 1) := dk_5 (dk_at dksX49_mix_11 20 rfl rfl)
theorem dX49_mix_278 : decode cX49_mix 278 = .ok (.invokestatic 91, 3) := dk_184 0 91 (dk_at dksX49_mix_11 21 rfl rfl)
theorem dX49_mix_281 : decode cX49_mix 281 = .ok (.iload 4, 2) := dk_21 4 (dk_at dksX49_mix_12 0 rfl rfl)
theorem dX49_mix_283 : decode cX49_mix 283 = .ok (.bipush 13, 2) := dk_16 13 (dk_at dksX49_mix_12 2 rfl rfl)
theorem dX49_mix_285 : decode cX49_mix 285 = .ok (.invokestatic 91, 3) := dk_184 0 91 (dk_at dksX49_mix_12 4 rfl rfl)
theorem dX49_mix_288 : decode cX49_mix 288 = .ok (.ixor, 1) := dk_130 (dk_at dksX49_mix_12 7 rfl rfl)
theorem dX49_mix_289 : decode cX49_mix 289 = .ok (.iload 4, 2) := dk_21 4 (dk_at dksX49_mix_12 8 rfl rfl)
theorem dX49_mix_291 : decode cX49_mix 291 = .ok (.bipush 22, 2) := dk_16 22 (dk_at dksX49_mix_12 10 rfl rfl)
theorem dX49_mix_293 : decode cX49_mix 293 = .ok (.invokestatic 91, 3) := dk_184 0 91 (dk_at dksX49_mix_12 12 rfl rfl)
theorem dX49_mix_296 : decode cX49_mix 296 = .ok (.ixor, 1) := dk_130 (dk_at dksX49_mix_12 15 rfl rfl)
theorem dX49_mix_297 : decode cX49_mix 297 = .ok (.iload 4, 2) := dk_21 4 (dk_at dksX49_mix_12 16 rfl rfl)
theorem dX49_mix_299 : decode cX49_mix 299 = .ok (.aload_n 0, 1) := dk_42 (dk_at dksX49_mix_12 18 rfl rfl)
theorem dX49_mix_300 : decode cX49_mix 300 = .ok (.getfield 51, 3) := dk_180 0 51 (dk_at dksX49_mix_12 19 rfl rfl)
theorem dX49_mix_303 : decode cX49_mix 303 = .ok (.iconst 1, 1) := dk_4 (dk_at dksX49_mix_12 22 rfl rfl)
theorem dX49_mix_304 : decode cX49_mix 304 = .ok (.iaload, 1) := dk_46 (dk_at dksX49_mix_12 23 rfl rfl)
theorem dX49_mix_305 : decode cX49_mix 305 = .ok (.iand, 1) := dk_126 (dk_at dksX49_mix_13 0 rfl rfl)
theorem dX49_mix_306 : decode cX49_mix 306 = .ok (.iload 4, 2) := dk_21 4 (dk_at dksX49_mix_13 1 rfl rfl)
theorem dX49_mix_308 : decode cX49_mix 308 = .ok (.aload_n 0, 1) := dk_42 (dk_at dksX49_mix_13 3 rfl rfl)
theorem dX49_mix_309 : decode cX49_mix 309 = .ok (.getfield 51, 3) := dk_180 0 51 (dk_at dksX49_mix_13 4 rfl rfl)
theorem dX49_mix_312 : decode cX49_mix 312 = .ok (.iconst 2, 1) := dk_5 (dk_at dksX49_mix_13 7 rfl rfl)
theorem dX49_mix_313 : decode cX49_mix 313 = .ok (.iaload, 1) := dk_46 (dk_at dksX49_mix_13 8 rfl rfl)
theorem dX49_mix_314 : decode cX49_mix 314 = .ok (.iand, 1) := dk_126 (dk_at dksX49_mix_13 9 rfl rfl)
theorem dX49_mix_315 : decode cX49_mix 315 = .ok (.ixor, 1) := dk_130 (dk_at dksX49_mix_13 10 rfl rfl)
theorem dX49_mix_316 : decode cX49_mix 316 = .ok (.aload_n 0, 1) := dk_42 (dk_at dksX49_mix_13 11 rfl rfl)
theorem dX49_mix_317 : decode cX49_mix 317 = .ok (.getfield 51, 3) := dk_180 0 51 (dk_at dksX49_mix_13 12 rfl rfl)
theorem dX49_mix_320 : decode cX49_mix 320 = .ok (.iconst 1, 1) := dk_4 (dk_at dksX49_mix_13 15 rfl rfl)
theorem dX49_mix_321 : decode cX49_mix 321 = .ok (.iaload, 1) := dk_46 (dk_at dksX49_mix_13 16 rfl rfl)
theorem dX49_mix_322 : decode cX49_mix 322 = .ok (.aload_n 0, 1) := dk_42 (dk_at dksX49_mix_13 17 rfl rfl)
theorem dX49_mix_323 : decode cX49_mix 323 = .ok (.getfield 51, 3) := dk_180 0 51 (dk_at dksX49_mix_13 18 rfl rfl)
theorem dX49_mix_326 : decode cX49_mix 326 = .ok (.iconst 2, 1) := dk_5 (dk_at dksX49_mix_13 21 rfl rfl)
theorem dX49_mix_327 : decode cX49_mix 327 = .ok (.iaload, 1) := dk_46 (dk_at dksX49_mix_13 22 rfl rfl)
theorem dX49_mix_328 : decode cX49_mix 328 = .ok (.iand, 1) := dk_126 (dk_at dksX49_mix_13 23 rfl rfl)
theorem dX49_mix_329 : decode cX49_mix 329 = .ok (.ixor, 1) := dk_130 (dk_at dksX49_mix_14 0 rfl rfl)
theorem dX49_mix_330 : decode cX49_mix 330 = .ok (.iadd, 1) := dk_96 (dk_at dksX49_mix_14 1 rfl rfl)
theorem dX49_mix_331 : decode cX49_mix 331 = .ok (.istore 6, 2) := dk_54 6 (dk_at dksX49_mix_14 2 rfl rfl)
theorem dX49_mix_333 : decode cX49_mix 333 = .ok (.bipush 7, 2) := dk_16 7 (dk_at dksX49_mix_14 4 rfl rfl)
theorem dX49_mix_335 : decode cX49_mix 335 = .ok (.istore 7, 2) := dk_54 7 (dk_at dksX49_mix_14 6 rfl rfl)
theorem dX49_mix_337 : decode cX49_mix 337 = .ok (.iload 7, 2) := dk_21 7 (dk_at dksX49_mix_14 8 rfl rfl)
theorem dX49_mix_339 : decode cX49_mix 339 = .ok (.ifCond .le 25, 3) := dk_158 0 25 (dk_at dksX49_mix_14 10 rfl rfl)
theorem dX49_mix_342 : decode cX49_mix 342 = .ok (.aload_n 0, 1) := dk_42 (dk_at dksX49_mix_14 13 rfl rfl)
theorem dX49_mix_343 : decode cX49_mix 343 = .ok (.getfield 51, 3) := dk_180 0 51 (dk_at dksX49_mix_14 14 rfl rfl)
theorem dX49_mix_346 : decode cX49_mix 346 = .ok (.iload 7, 2) := dk_21 7 (dk_at dksX49_mix_14 17 rfl rfl)
theorem dX49_mix_348 : decode cX49_mix 348 = .ok (.aload_n 0, 1) := dk_42 (dk_at dksX49_mix_14 19 rfl rfl)
theorem dX49_mix_349 : decode cX49_mix 349 = .ok (.getfield 51, 3) := dk_180 0 51 (dk_at dksX49_mix_14 20 rfl rfl)
theorem dX49_mix_352 : decode cX49_mix 352 = .ok (.iload 7, 2) := dk_21 7 (dk_at dksX49_mix_15 0 rfl rfl)
theorem dX49_mix_354 : decode cX49_mix 354 = .ok (.iconst 1, 1) := dk_4 (dk_at dksX49_mix_15 2 rfl rfl)
theorem dX49_mix_355 : decode cX49_mix 355 = .ok (.isub, 1) := dk_100 (dk_at dksX49_mix_15 3 rfl rfl)
theorem dX49_mix_356 : decode cX49_mix 356 = .ok (.iaload, 1) := dk_46 (dk_at dksX49_mix_15 4 rfl rfl)
theorem dX49_mix_357 : decode cX49_mix 357 = .ok (.iastore, 1) := dk_79 (dk_at dksX49_mix_15 5 rfl rfl)
theorem dX49_mix_358 : decode cX49_mix 358 = .ok (.iinc 7 (-1), 3) := dk_132 7 255 (dk_at dksX49_mix_15 6 rfl rfl)
theorem dX49_mix_361 : decode cX49_mix 361 = .ok (.goto (-24), 3) := dk_167 255 232 (dk_at dksX49_mix_15 9 rfl rfl)
theorem dX49_mix_364 : decode cX49_mix 364 = .ok (.aload_n 0, 1) := dk_42 (dk_at dksX49_mix_15 12 rfl rfl)
theorem dX49_mix_365 : decode cX49_mix 365 = .ok (.getfield 51, 3) := dk_180 0 51 (dk_at dksX49_mix_15 13 rfl rfl)
theorem dX49_mix_368 : decode cX49_mix 368 = .ok (.iconst 4, 1) := dk_7 (dk_at dksX49_mix_15 16 rfl rfl)
theorem dX49_mix_369 : decode cX49_mix 369 = .ok (.aload_n 0, 1) := dk_42 (dk_at dksX49_mix_15 17 rfl rfl)
theorem dX49_mix_370 : decode cX49_mix 370 = .ok (.getfield 51, 3) := dk_180 0 51 (dk_at dksX49_mix_15 18 rfl rfl)
theorem dX49_mix_373 : decode cX49_mix 373 = .ok (.iconst 4, 1) := dk_7 (dk_at dksX49_mix_15 21 rfl rfl)
theorem dX49_mix_374 : decode cX49_mix 374 = .ok (.iaload, 1) := dk_46 (dk_at dksX49_mix_15 22 rfl rfl)
theorem dX49_mix_375 : decode cX49_mix 375 = .ok (.iload 5, 2) := dk_21 5 (dk_at dksX49_mix_16 0 rfl rfl)
theorem dX49_mix_377 : decode cX49_mix 377 = .ok (.iadd, 1) := dk_96 (dk_at dksX49_mix_16 2 rfl rfl)
theorem dX49_mix_378 : decode cX49_mix 378 = .ok (.iastore, 1) := dk_79 (dk_at dksX49_mix_16 3 rfl rfl)
theorem dX49_mix_379 : decode cX49_mix 379 = .ok (.aload_n 0, 1) := dk_42 (dk_at dksX49_mix_16 4 rfl rfl)
theorem dX49_mix_380 : decode cX49_mix 380 = .ok (.getfield 51, 3) := dk_180 0 51 (dk_at dksX49_mix_16 5 rfl rfl)
theorem dX49_mix_383 : decode cX49_mix 383 = .ok (.iconst 0, 1) := dk_3 (dk_at dksX49_mix_16 8 rfl rfl)
theorem dX49_mix_384 : decode cX49_mix 384 = .ok (.iload 5, 2) := dk_21 5 (dk_at dksX49_mix_16 9 rfl rfl)
theorem dX49_mix_386 : decode cX49_mix 386 = .ok (.iload 6, 2) := dk_21 6 (dk_at dksX49_mix_16 11 rfl rfl)
theorem dX49_mix_388 : decode cX49_mix 388 = .ok (.iadd, 1) := dk_96 (dk_at dksX49_mix_16 13 rfl rfl)
theorem dX49_mix_389 : decode cX49_mix 389 = .ok (.iastore, 1) := dk_79 (dk_at dksX49_mix_16 14 rfl rfl)
theorem dX49_mix_390 : decode cX49_mix 390 = .ok (.iinc 2 1, 3) := dk_132 2 1 (dk_at dksX49_mix_16 15 rfl rfl)
theorem dX49_mix_393 : decode cX49_mix 393 = .ok (.goto (-204), 3) := dk_167 255 52 (dk_at dksX49_mix_16 18 rfl rfl)
theorem dX49_mix_396 : decode cX49_mix 396 = .ok (.iconst 0, 1) := dk_3 (dk_at dksX49_mix_16 21 rfl rfl)
theorem dX49_mix_397 : decode cX49_mix 397 = .ok (.istore_n 2, 1) := dk_61 (dk_at dksX49_mix_16 22 rfl rfl)
theorem dX49_mix_398 : decode cX49_mix 398 = .ok (.iload_n 2, 1) := dk_28 (dk_at dksX49_mix_16 23 rfl rfl)
theorem dX49_mix_399 : decode cX49_mix 399 = .ok (.bipush 8, 2) := dk_16 8 (dk_at dksX49_mix_17 0 rfl rfl)
theorem dX49_mix_401 : decode cX49_mix 401 = .ok (.if_icmp .ge 28, 3) := dk_162 0 28 (dk_at dksX49_mix_17 2 rfl rfl)
theorem dX49_mix_404 : decode cX49_mix 404 = .ok (.aload_n 0, 1) := dk_42 (dk_at dksX49_mix_17 5 rfl rfl)
theorem dX49_mix_405 : decode cX49_mix 405 = .ok (.getfield 48, 3) := dk_180 0 48 (dk_at dksX49_mix_17 6 rfl rfl)
theorem dX49_mix_408 : decode cX49_mix 408 = .ok (.iload_n 2, 1) := dk_28 (dk_at dksX49_mix_17 9 rfl rfl)
theorem dX49_mix_409 : decode cX49_mix 409 = .ok (.aload_n 0, 1) := dk_42 (dk_at dksX49_mix_17 10 rfl rfl)
theorem dX49_mix_410 : decode cX49_mix 410 = .ok (.getfield 48, 3) := dk_180 0 48 (dk_at dksX49_mix_17 11 rfl rfl)
theorem dX49_mix_413 : decode cX49_mix 413 = .ok (.iload_n 2, 1) := dk_28 (dk_at dksX49_mix_17 14 rfl rfl)
theorem dX49_mix_414 : decode cX49_mix 414 = .ok (.iaload, 1) := dk_46 (dk_at dksX49_mix_17 15 rfl rfl)
theorem dX49_mix_415 : decode cX49_mix 415 = .ok (.aload_n 0, 1) := dk_42 (dk_at dksX49_mix_17 16 rfl rfl)
theorem dX49_mix_416 : decode cX49_mix 416 = .ok (.getfield 51, 3) := dk_180 0 51 (dk_at dksX49_mix_17 17 rfl rfl)
theorem dX49_mix_419 : decode cX49_mix 419 = .ok (.iload_n 2, 1) := dk_28 (dk_at dksX49_mix_17 20 rfl rfl)
theorem dX49_mix_420 : decode cX49_mix 420 = .ok (.iaload, 1) := dk_46 (dk_at dksX49_mix_17 21 rfl rfl)
theorem dX49_mix_421 : decode cX49_mix 421 = .ok (.iadd, 1) := dk_96 (dk_at dksX49_mix_17 22 rfl rfl)
theorem dX49_mix_422 : decode cX49_mix 422 = .ok (.iastore, 1) := dk_79 (dk_at dksX49_mix_17 23 rfl rfl)
theorem dX49_mix_423 : decode cX49_mix 423 = .ok (.iinc 2 1, 3) := dk_132 2 1 (dk_at dksX49_mix_18 0 rfl rfl)
theorem dX49_mix_426 : decode cX49_mix 426 = .ok (.goto (-28), 3) := dk_167 255 228 (dk_at dksX49_mix_18 3 rfl rfl)
theorem dX49_mix_429 : decode cX49_mix 429 = .ok (.return_, 1) := dk_177 (dk_at dksX49_mix_18 6 rfl rfl)
abbrev cX49_rot : ByteArray := prog_65_method_5_code
def yX49_rot : MethodName := ⟨RX49, "rot", "(II)I"⟩
def dkwX49_rot_0 : List UInt8 := [26, 27, 124, 26, 16, 32, 27, 100, 120, 128, 172]
abbrev dktX49_rot_0 : List UInt8 := dkwX49_rot_0 ++ []
theorem dksX49_rot_0 : cX49_rot.data.toList.drop 0 = dktX49_rot_0 := by decide +kernel
theorem dX49_rot_0 : decode cX49_rot 0 = .ok (.iload_n 0, 1) := dk_26 (dk_at dksX49_rot_0 0 rfl rfl)
theorem dX49_rot_1 : decode cX49_rot 1 = .ok (.iload_n 1, 1) := dk_27 (dk_at dksX49_rot_0 1 rfl rfl)
theorem dX49_rot_2 : decode cX49_rot 2 = .ok (.iushr, 1) := dk_124 (dk_at dksX49_rot_0 2 rfl rfl)
theorem dX49_rot_3 : decode cX49_rot 3 = .ok (.iload_n 0, 1) := dk_26 (dk_at dksX49_rot_0 3 rfl rfl)
theorem dX49_rot_4 : decode cX49_rot 4 = .ok (.bipush 32, 2) := dk_16 32 (dk_at dksX49_rot_0 4 rfl rfl)
theorem dX49_rot_6 : decode cX49_rot 6 = .ok (.iload_n 1, 1) := dk_27 (dk_at dksX49_rot_0 6 rfl rfl)
theorem dX49_rot_7 : decode cX49_rot 7 = .ok (.isub, 1) := dk_100 (dk_at dksX49_rot_0 7 rfl rfl)
theorem dX49_rot_8 : decode cX49_rot 8 = .ok (.ishl, 1) := dk_120 (dk_at dksX49_rot_0 8 rfl rfl)
theorem dX49_rot_9 : decode cX49_rot 9 = .ok (.ior, 1) := dk_128 (dk_at dksX49_rot_0 9 rfl rfl)
theorem dX49_rot_10 : decode cX49_rot 10 = .ok (.ireturn, 1) := dk_172 (dk_at dksX49_rot_0 10 rfl rfl)
abbrev cX49_share : ByteArray := prog_65_method_29_code
def yX49_share : MethodName := ⟨RX49, "share", "(II)J"⟩
def dkwX49_share_10 : List UInt8 := [22, 11, 22, 7, 148, 156, 0, 7, 10, 167, 0, 4, 9, 97, 173]
abbrev dktX49_share_10 : List UInt8 := dkwX49_share_10 ++ []
def dkwX49_share_9 : List UInt8 := [132, 13, 1, 167, 255, 194, 22, 5, 42, 180, 0, 29, 16, 8, 27, 104, 28, 96, 46, 133, 105, 33, 109]
abbrev dktX49_share_9 : List UInt8 := dkwX49_share_9 ++ dktX49_share_10
def dkwX49_share_8 : List UInt8 := [22, 14, 22, 9, 148, 154, 0, 13, 21, 13, 28, 162, 0, 7, 10, 167, 0, 4, 9, 97, 55, 11]
abbrev dktX49_share_8 : List UInt8 := dkwX49_share_8 ++ dktX49_share_9
def dkwX49_share_7 : List UInt8 := [16, 8, 27, 104, 21, 13, 96, 46, 133, 105, 33, 113, 55, 14, 22, 11, 22, 14, 22, 9, 148, 157, 0, 17]
abbrev dktX49_share_7 : List UInt8 := dkwX49_share_7 ++ dktX49_share_8
def dkwX49_share_6 : List UInt8 := [105, 33, 113, 55, 9, 9, 55, 11, 3, 54, 13, 21, 13, 16, 8, 162, 0, 61, 22, 5, 42, 180, 0, 29]
abbrev dktX49_share_6 : List UInt8 := dkwX49_share_6 ++ dktX49_share_7
def dkwX49_share_5 : List UInt8 := [109, 101, 55, 7, 132, 9, 1, 167, 255, 223, 22, 5, 42, 180, 0, 29, 16, 8, 27, 104, 28, 96, 46, 133]
abbrev dktX49_share_5 : List UInt8 := dkwX49_share_5 ++ dktX49_share_6
def dkwX49_share_4 : List UInt8 := [16, 8, 162, 0, 32, 22, 7, 22, 5, 42, 180, 0, 29, 16, 8, 27, 104, 21, 9, 96, 46, 133, 105, 33]
abbrev dktX49_share_4 : List UInt8 := dkwX49_share_4 ++ dktX49_share_5
def dkwX49_share_3 : List UInt8 := [153, 0, 7, 9, 167, 0, 9, 42, 27, 8, 182, 0, 170, 55, 5, 22, 5, 55, 7, 3, 54, 9, 21, 9]
abbrev dktX49_share_3 : List UInt8 := dkwX49_share_3 ++ dktX49_share_4
def dkwX49_share_2 : List UInt8 := [133, 97, 66, 132, 5, 1, 167, 255, 230, 33, 9, 148, 154, 0, 7, 20, 0, 136, 173, 42, 27, 182, 0, 163]
abbrev dktX49_share_2 : List UInt8 := dkwX49_share_2 ++ dktX49_share_3
def dkwX49_share_1 : List UInt8 := [66, 3, 54, 5, 21, 5, 16, 8, 162, 0, 25, 33, 42, 180, 0, 29, 16, 8, 27, 104, 21, 5, 96, 46]
abbrev dktX49_share_1 : List UInt8 := dkwX49_share_1 ++ dktX49_share_2
def dkwX49_share_0 : List UInt8 := [42, 27, 182, 0, 159, 153, 0, 14, 28, 133, 20, 0, 166, 184, 0, 119, 154, 0, 7, 20, 0, 136, 173, 9]
abbrev dktX49_share_0 : List UInt8 := dkwX49_share_0 ++ dktX49_share_1
theorem dksX49_share_0 : cX49_share.data.toList.drop 0 = dktX49_share_0 := by decide +kernel
theorem dksX49_share_1 : cX49_share.data.toList.drop 24 = dktX49_share_1 := dk_seg dksX49_share_0 24 rfl rfl
theorem dksX49_share_2 : cX49_share.data.toList.drop 48 = dktX49_share_2 := dk_seg dksX49_share_1 24 rfl rfl
theorem dksX49_share_3 : cX49_share.data.toList.drop 72 = dktX49_share_3 := dk_seg dksX49_share_2 24 rfl rfl
theorem dksX49_share_4 : cX49_share.data.toList.drop 96 = dktX49_share_4 := dk_seg dksX49_share_3 24 rfl rfl
theorem dksX49_share_5 : cX49_share.data.toList.drop 120 = dktX49_share_5 := dk_seg dksX49_share_4 24 rfl rfl
theorem dksX49_share_6 : cX49_share.data.toList.drop 144 = dktX49_share_6 := dk_seg dksX49_share_5 24 rfl rfl
theorem dksX49_share_7 : cX49_share.data.toList.drop 168 = dktX49_share_7 := dk_seg dksX49_share_6 24 rfl rfl
theorem dksX49_share_8 : cX49_share.data.toList.drop 192 = dktX49_share_8 := dk_seg dksX49_share_7 24 rfl rfl
theorem dksX49_share_9 : cX49_share.data.toList.drop 214 = dktX49_share_9 := dk_seg dksX49_share_8 22 rfl rfl
theorem dksX49_share_10 : cX49_share.data.toList.drop 237 = dktX49_share_10 := dk_seg dksX49_share_9 23 rfl rfl
theorem dX49_share_0 : decode cX49_share 0 = .ok (.aload_n 0, 1) := dk_42 (dk_at dksX49_share_0 0 rfl rfl)
theorem dX49_share_1 : decode cX49_share 1 = .ok (.iload_n 1, 1) := dk_27 (dk_at dksX49_share_0 1 rfl rfl)
theorem dX49_share_2 : decode cX49_share 2 = .ok (.invokevirtual 159, 3) := dk_182 0 159 (dk_at dksX49_share_0 2 rfl rfl)
theorem dX49_share_5 : decode cX49_share 5 = .ok (.ifCond .eq 14, 3) := dk_153 0 14 (dk_at dksX49_share_0 5 rfl rfl)
theorem dX49_share_8 : decode cX49_share 8 = .ok (.iload_n 2, 1) := dk_28 (dk_at dksX49_share_0 8 rfl rfl)
theorem dX49_share_9 : decode cX49_share 9 = .ok (.i2l, 1) := dk_133 (dk_at dksX49_share_0 9 rfl rfl)
theorem dX49_share_10 : decode cX49_share 10 = .ok (.ldc2_w 166, 3) := dk_20 0 166 (dk_at dksX49_share_0 10 rfl rfl)
theorem dX49_share_13 : decode cX49_share 13 = .ok (.invokestatic 119, 3) := dk_184 0 119 (dk_at dksX49_share_0 13 rfl rfl)
theorem dX49_share_16 : decode cX49_share 16 = .ok (.ifCond .ne 7, 3) := dk_154 0 7 (dk_at dksX49_share_0 16 rfl rfl)
theorem dX49_share_19 : decode cX49_share 19 = .ok (.ldc2_w 136, 3) := dk_20 0 136 (dk_at dksX49_share_0 19 rfl rfl)
theorem dX49_share_22 : decode cX49_share 22 = .ok (.lreturn, 1) := dk_173 (dk_at dksX49_share_0 22 rfl rfl)
theorem dX49_share_23 : decode cX49_share 23 = .ok (.lconst 0, 1) := dk_9 (dk_at dksX49_share_0 23 rfl rfl)
theorem dX49_share_24 : decode cX49_share 24 = .ok (.lstore_n 3, 1) := dk_66 (dk_at dksX49_share_1 0 rfl rfl)
theorem dX49_share_25 : decode cX49_share 25 = .ok (.iconst 0, 1) := dk_3 (dk_at dksX49_share_1 1 rfl rfl)
theorem dX49_share_26 : decode cX49_share 26 = .ok (.istore 5, 2) := dk_54 5 (dk_at dksX49_share_1 2 rfl rfl)
theorem dX49_share_28 : decode cX49_share 28 = .ok (.iload 5, 2) := dk_21 5 (dk_at dksX49_share_1 4 rfl rfl)
theorem dX49_share_30 : decode cX49_share 30 = .ok (.bipush 8, 2) := dk_16 8 (dk_at dksX49_share_1 6 rfl rfl)
theorem dX49_share_32 : decode cX49_share 32 = .ok (.if_icmp .ge 25, 3) := dk_162 0 25 (dk_at dksX49_share_1 8 rfl rfl)
theorem dX49_share_35 : decode cX49_share 35 = .ok (.lload_n 3, 1) := dk_33 (dk_at dksX49_share_1 11 rfl rfl)
theorem dX49_share_36 : decode cX49_share 36 = .ok (.aload_n 0, 1) := dk_42 (dk_at dksX49_share_1 12 rfl rfl)
theorem dX49_share_37 : decode cX49_share 37 = .ok (.getfield 29, 3) := dk_180 0 29 (dk_at dksX49_share_1 13 rfl rfl)
theorem dX49_share_40 : decode cX49_share 40 = .ok (.bipush 8, 2) := dk_16 8 (dk_at dksX49_share_1 16 rfl rfl)
theorem dX49_share_42 : decode cX49_share 42 = .ok (.iload_n 1, 1) := dk_27 (dk_at dksX49_share_1 18 rfl rfl)
theorem dX49_share_43 : decode cX49_share 43 = .ok (.imul, 1) := dk_104 (dk_at dksX49_share_1 19 rfl rfl)
theorem dX49_share_44 : decode cX49_share 44 = .ok (.iload 5, 2) := dk_21 5 (dk_at dksX49_share_1 20 rfl rfl)
theorem dX49_share_46 : decode cX49_share 46 = .ok (.iadd, 1) := dk_96 (dk_at dksX49_share_1 22 rfl rfl)
theorem dX49_share_47 : decode cX49_share 47 = .ok (.iaload, 1) := dk_46 (dk_at dksX49_share_1 23 rfl rfl)
theorem dX49_share_48 : decode cX49_share 48 = .ok (.i2l, 1) := dk_133 (dk_at dksX49_share_2 0 rfl rfl)
theorem dX49_share_49 : decode cX49_share 49 = .ok (.ladd, 1) := dk_97 (dk_at dksX49_share_2 1 rfl rfl)
theorem dX49_share_50 : decode cX49_share 50 = .ok (.lstore_n 3, 1) := dk_66 (dk_at dksX49_share_2 2 rfl rfl)
theorem dX49_share_51 : decode cX49_share 51 = .ok (.iinc 5 1, 3) := dk_132 5 1 (dk_at dksX49_share_2 3 rfl rfl)
theorem dX49_share_54 : decode cX49_share 54 = .ok (.goto (-26), 3) := dk_167 255 230 (dk_at dksX49_share_2 6 rfl rfl)
theorem dX49_share_57 : decode cX49_share 57 = .ok (.lload_n 3, 1) := dk_33 (dk_at dksX49_share_2 9 rfl rfl)
theorem dX49_share_58 : decode cX49_share 58 = .ok (.lconst 0, 1) := dk_9 (dk_at dksX49_share_2 10 rfl rfl)
theorem dX49_share_59 : decode cX49_share 59 = .ok (.lcmp, 1) := dk_148 (dk_at dksX49_share_2 11 rfl rfl)
theorem dX49_share_60 : decode cX49_share 60 = .ok (.ifCond .ne 7, 3) := dk_154 0 7 (dk_at dksX49_share_2 12 rfl rfl)
theorem dX49_share_63 : decode cX49_share 63 = .ok (.ldc2_w 136, 3) := dk_20 0 136 (dk_at dksX49_share_2 15 rfl rfl)
theorem dX49_share_66 : decode cX49_share 66 = .ok (.lreturn, 1) := dk_173 (dk_at dksX49_share_2 18 rfl rfl)
theorem dX49_share_67 : decode cX49_share 67 = .ok (.aload_n 0, 1) := dk_42 (dk_at dksX49_share_2 19 rfl rfl)
theorem dX49_share_68 : decode cX49_share 68 = .ok (.iload_n 1, 1) := dk_27 (dk_at dksX49_share_2 20 rfl rfl)
theorem dX49_share_69 : decode cX49_share 69 = .ok (.invokevirtual 163, 3) := dk_182 0 163 (dk_at dksX49_share_2 21 rfl rfl)
theorem dX49_share_72 : decode cX49_share 72 = .ok (.ifCond .eq 7, 3) := dk_153 0 7 (dk_at dksX49_share_3 0 rfl rfl)
theorem dX49_share_75 : decode cX49_share 75 = .ok (.lconst 0, 1) := dk_9 (dk_at dksX49_share_3 3 rfl rfl)
theorem dX49_share_76 : decode cX49_share 76 = .ok (.goto 9, 3) := dk_167 0 9 (dk_at dksX49_share_3 4 rfl rfl)
theorem dX49_share_79 : decode cX49_share 79 = .ok (.aload_n 0, 1) := dk_42 (dk_at dksX49_share_3 7 rfl rfl)
theorem dX49_share_80 : decode cX49_share 80 = .ok (.iload_n 1, 1) := dk_27 (dk_at dksX49_share_3 8 rfl rfl)
theorem dX49_share_81 : decode cX49_share 81 = .ok (.iconst 5, 1) := dk_8 (dk_at dksX49_share_3 9 rfl rfl)
theorem dX49_share_82 : decode cX49_share 82 = .ok (.invokevirtual 170, 3) := dk_182 0 170 (dk_at dksX49_share_3 10 rfl rfl)
theorem dX49_share_85 : decode cX49_share 85 = .ok (.lstore 5, 2) := dk_55 5 (dk_at dksX49_share_3 13 rfl rfl)
theorem dX49_share_87 : decode cX49_share 87 = .ok (.lload 5, 2) := dk_22 5 (dk_at dksX49_share_3 15 rfl rfl)
theorem dX49_share_89 : decode cX49_share 89 = .ok (.lstore 7, 2) := dk_55 7 (dk_at dksX49_share_3 17 rfl rfl)
theorem dX49_share_91 : decode cX49_share 91 = .ok (.iconst 0, 1) := dk_3 (dk_at dksX49_share_3 19 rfl rfl)
theorem dX49_share_92 : decode cX49_share 92 = .ok (.istore 9, 2) := dk_54 9 (dk_at dksX49_share_3 20 rfl rfl)
theorem dX49_share_94 : decode cX49_share 94 = .ok (.iload 9, 2) := dk_21 9 (dk_at dksX49_share_3 22 rfl rfl)
theorem dX49_share_96 : decode cX49_share 96 = .ok (.bipush 8, 2) := dk_16 8 (dk_at dksX49_share_4 0 rfl rfl)
theorem dX49_share_98 : decode cX49_share 98 = .ok (.if_icmp .ge 32, 3) := dk_162 0 32 (dk_at dksX49_share_4 2 rfl rfl)
theorem dX49_share_101 : decode cX49_share 101 = .ok (.lload 7, 2) := dk_22 7 (dk_at dksX49_share_4 5 rfl rfl)
theorem dX49_share_103 : decode cX49_share 103 = .ok (.lload 5, 2) := dk_22 5 (dk_at dksX49_share_4 7 rfl rfl)
theorem dX49_share_105 : decode cX49_share 105 = .ok (.aload_n 0, 1) := dk_42 (dk_at dksX49_share_4 9 rfl rfl)
theorem dX49_share_106 : decode cX49_share 106 = .ok (.getfield 29, 3) := dk_180 0 29 (dk_at dksX49_share_4 10 rfl rfl)
theorem dX49_share_109 : decode cX49_share 109 = .ok (.bipush 8, 2) := dk_16 8 (dk_at dksX49_share_4 13 rfl rfl)
theorem dX49_share_111 : decode cX49_share 111 = .ok (.iload_n 1, 1) := dk_27 (dk_at dksX49_share_4 15 rfl rfl)
theorem dX49_share_112 : decode cX49_share 112 = .ok (.imul, 1) := dk_104 (dk_at dksX49_share_4 16 rfl rfl)
theorem dX49_share_113 : decode cX49_share 113 = .ok (.iload 9, 2) := dk_21 9 (dk_at dksX49_share_4 17 rfl rfl)
theorem dX49_share_115 : decode cX49_share 115 = .ok (.iadd, 1) := dk_96 (dk_at dksX49_share_4 19 rfl rfl)
theorem dX49_share_116 : decode cX49_share 116 = .ok (.iaload, 1) := dk_46 (dk_at dksX49_share_4 20 rfl rfl)
theorem dX49_share_117 : decode cX49_share 117 = .ok (.i2l, 1) := dk_133 (dk_at dksX49_share_4 21 rfl rfl)
theorem dX49_share_118 : decode cX49_share 118 = .ok (.lmul, 1) := dk_105 (dk_at dksX49_share_4 22 rfl rfl)
theorem dX49_share_119 : decode cX49_share 119 = .ok (.lload_n 3, 1) := dk_33 (dk_at dksX49_share_4 23 rfl rfl)
theorem dX49_share_120 : decode cX49_share 120 = .ok (.ldiv, 1) := dk_109 (dk_at dksX49_share_5 0 rfl rfl)
theorem dX49_share_121 : decode cX49_share 121 = .ok (.lsub, 1) := dk_101 (dk_at dksX49_share_5 1 rfl rfl)
theorem dX49_share_122 : decode cX49_share 122 = .ok (.lstore 7, 2) := dk_55 7 (dk_at dksX49_share_5 2 rfl rfl)
theorem dX49_share_124 : decode cX49_share 124 = .ok (.iinc 9 1, 3) := dk_132 9 1 (dk_at dksX49_share_5 4 rfl rfl)
theorem dX49_share_127 : decode cX49_share 127 = .ok (.goto (-33), 3) := dk_167 255 223 (dk_at dksX49_share_5 7 rfl rfl)
theorem dX49_share_130 : decode cX49_share 130 = .ok (.lload 5, 2) := dk_22 5 (dk_at dksX49_share_5 10 rfl rfl)
theorem dX49_share_132 : decode cX49_share 132 = .ok (.aload_n 0, 1) := dk_42 (dk_at dksX49_share_5 12 rfl rfl)
theorem dX49_share_133 : decode cX49_share 133 = .ok (.getfield 29, 3) := dk_180 0 29 (dk_at dksX49_share_5 13 rfl rfl)
theorem dX49_share_136 : decode cX49_share 136 = .ok (.bipush 8, 2) := dk_16 8 (dk_at dksX49_share_5 16 rfl rfl)
theorem dX49_share_138 : decode cX49_share 138 = .ok (.iload_n 1, 1) := dk_27 (dk_at dksX49_share_5 18 rfl rfl)
theorem dX49_share_139 : decode cX49_share 139 = .ok (.imul, 1) := dk_104 (dk_at dksX49_share_5 19 rfl rfl)
theorem dX49_share_140 : decode cX49_share 140 = .ok (.iload_n 2, 1) := dk_28 (dk_at dksX49_share_5 20 rfl rfl)
theorem dX49_share_141 : decode cX49_share 141 = .ok (.iadd, 1) := dk_96 (dk_at dksX49_share_5 21 rfl rfl)
theorem dX49_share_142 : decode cX49_share 142 = .ok (.iaload, 1) := dk_46 (dk_at dksX49_share_5 22 rfl rfl)
theorem dX49_share_143 : decode cX49_share 143 = .ok (.i2l, 1) := dk_133 (dk_at dksX49_share_5 23 rfl rfl)
theorem dX49_share_144 : decode cX49_share 144 = .ok (.lmul, 1) := dk_105 (dk_at dksX49_share_6 0 rfl rfl)
theorem dX49_share_145 : decode cX49_share 145 = .ok (.lload_n 3, 1) := dk_33 (dk_at dksX49_share_6 1 rfl rfl)
theorem dX49_share_146 : decode cX49_share 146 = .ok (.lrem, 1) := dk_113 (dk_at dksX49_share_6 2 rfl rfl)
theorem dX49_share_147 : decode cX49_share 147 = .ok (.lstore 9, 2) := dk_55 9 (dk_at dksX49_share_6 3 rfl rfl)
theorem dX49_share_149 : decode cX49_share 149 = .ok (.lconst 0, 1) := dk_9 (dk_at dksX49_share_6 5 rfl rfl)
theorem dX49_share_150 : decode cX49_share 150 = .ok (.lstore 11, 2) := dk_55 11 (dk_at dksX49_share_6 6 rfl rfl)
theorem dX49_share_152 : decode cX49_share 152 = .ok (.iconst 0, 1) := dk_3 (dk_at dksX49_share_6 8 rfl rfl)
theorem dX49_share_153 : decode cX49_share 153 = .ok (.istore 13, 2) := dk_54 13 (dk_at dksX49_share_6 9 rfl rfl)
theorem dX49_share_155 : decode cX49_share 155 = .ok (.iload 13, 2) := dk_21 13 (dk_at dksX49_share_6 11 rfl rfl)
theorem dX49_share_157 : decode cX49_share 157 = .ok (.bipush 8, 2) := dk_16 8 (dk_at dksX49_share_6 13 rfl rfl)
theorem dX49_share_159 : decode cX49_share 159 = .ok (.if_icmp .ge 61, 3) := dk_162 0 61 (dk_at dksX49_share_6 15 rfl rfl)
theorem dX49_share_162 : decode cX49_share 162 = .ok (.lload 5, 2) := dk_22 5 (dk_at dksX49_share_6 18 rfl rfl)
theorem dX49_share_164 : decode cX49_share 164 = .ok (.aload_n 0, 1) := dk_42 (dk_at dksX49_share_6 20 rfl rfl)
theorem dX49_share_165 : decode cX49_share 165 = .ok (.getfield 29, 3) := dk_180 0 29 (dk_at dksX49_share_6 21 rfl rfl)
theorem dX49_share_168 : decode cX49_share 168 = .ok (.bipush 8, 2) := dk_16 8 (dk_at dksX49_share_7 0 rfl rfl)
theorem dX49_share_170 : decode cX49_share 170 = .ok (.iload_n 1, 1) := dk_27 (dk_at dksX49_share_7 2 rfl rfl)
theorem dX49_share_171 : decode cX49_share 171 = .ok (.imul, 1) := dk_104 (dk_at dksX49_share_7 3 rfl rfl)
theorem dX49_share_172 : decode cX49_share 172 = .ok (.iload 13, 2) := dk_21 13 (dk_at dksX49_share_7 4 rfl rfl)
theorem dX49_share_174 : decode cX49_share 174 = .ok (.iadd, 1) := dk_96 (dk_at dksX49_share_7 6 rfl rfl)
theorem dX49_share_175 : decode cX49_share 175 = .ok (.iaload, 1) := dk_46 (dk_at dksX49_share_7 7 rfl rfl)
theorem dX49_share_176 : decode cX49_share 176 = .ok (.i2l, 1) := dk_133 (dk_at dksX49_share_7 8 rfl rfl)
theorem dX49_share_177 : decode cX49_share 177 = .ok (.lmul, 1) := dk_105 (dk_at dksX49_share_7 9 rfl rfl)
theorem dX49_share_178 : decode cX49_share 178 = .ok (.lload_n 3, 1) := dk_33 (dk_at dksX49_share_7 10 rfl rfl)
theorem dX49_share_179 : decode cX49_share 179 = .ok (.lrem, 1) := dk_113 (dk_at dksX49_share_7 11 rfl rfl)
theorem dX49_share_180 : decode cX49_share 180 = .ok (.lstore 14, 2) := dk_55 14 (dk_at dksX49_share_7 12 rfl rfl)
theorem dX49_share_182 : decode cX49_share 182 = .ok (.lload 11, 2) := dk_22 11 (dk_at dksX49_share_7 14 rfl rfl)
theorem dX49_share_184 : decode cX49_share 184 = .ok (.lload 14, 2) := dk_22 14 (dk_at dksX49_share_7 16 rfl rfl)
theorem dX49_share_186 : decode cX49_share 186 = .ok (.lload 9, 2) := dk_22 9 (dk_at dksX49_share_7 18 rfl rfl)
theorem dX49_share_188 : decode cX49_share 188 = .ok (.lcmp, 1) := dk_148 (dk_at dksX49_share_7 20 rfl rfl)
theorem dX49_share_189 : decode cX49_share 189 = .ok (.ifCond .gt 17, 3) := dk_157 0 17 (dk_at dksX49_share_7 21 rfl rfl)
theorem dX49_share_192 : decode cX49_share 192 = .ok (.lload 14, 2) := dk_22 14 (dk_at dksX49_share_8 0 rfl rfl)
theorem dX49_share_194 : decode cX49_share 194 = .ok (.lload 9, 2) := dk_22 9 (dk_at dksX49_share_8 2 rfl rfl)
theorem dX49_share_196 : decode cX49_share 196 = .ok (.lcmp, 1) := dk_148 (dk_at dksX49_share_8 4 rfl rfl)
theorem dX49_share_197 : decode cX49_share 197 = .ok (.ifCond .ne 13, 3) := dk_154 0 13 (dk_at dksX49_share_8 5 rfl rfl)
theorem dX49_share_200 : decode cX49_share 200 = .ok (.iload 13, 2) := dk_21 13 (dk_at dksX49_share_8 8 rfl rfl)
theorem dX49_share_202 : decode cX49_share 202 = .ok (.iload_n 2, 1) := dk_28 (dk_at dksX49_share_8 10 rfl rfl)
theorem dX49_share_203 : decode cX49_share 203 = .ok (.if_icmp .ge 7, 3) := dk_162 0 7 (dk_at dksX49_share_8 11 rfl rfl)
theorem dX49_share_206 : decode cX49_share 206 = .ok (.lconst 1, 1) := dk_10 (dk_at dksX49_share_8 14 rfl rfl)
theorem dX49_share_207 : decode cX49_share 207 = .ok (.goto 4, 3) := dk_167 0 4 (dk_at dksX49_share_8 15 rfl rfl)
theorem dX49_share_210 : decode cX49_share 210 = .ok (.lconst 0, 1) := dk_9 (dk_at dksX49_share_8 18 rfl rfl)
theorem dX49_share_211 : decode cX49_share 211 = .ok (.ladd, 1) := dk_97 (dk_at dksX49_share_8 19 rfl rfl)
theorem dX49_share_212 : decode cX49_share 212 = .ok (.lstore 11, 2) := dk_55 11 (dk_at dksX49_share_8 20 rfl rfl)
theorem dX49_share_214 : decode cX49_share 214 = .ok (.iinc 13 1, 3) := dk_132 13 1 (dk_at dksX49_share_9 0 rfl rfl)
theorem dX49_share_217 : decode cX49_share 217 = .ok (.goto (-62), 3) := dk_167 255 194 (dk_at dksX49_share_9 3 rfl rfl)
theorem dX49_share_220 : decode cX49_share 220 = .ok (.lload 5, 2) := dk_22 5 (dk_at dksX49_share_9 6 rfl rfl)
theorem dX49_share_222 : decode cX49_share 222 = .ok (.aload_n 0, 1) := dk_42 (dk_at dksX49_share_9 8 rfl rfl)
theorem dX49_share_223 : decode cX49_share 223 = .ok (.getfield 29, 3) := dk_180 0 29 (dk_at dksX49_share_9 9 rfl rfl)
theorem dX49_share_226 : decode cX49_share 226 = .ok (.bipush 8, 2) := dk_16 8 (dk_at dksX49_share_9 12 rfl rfl)
theorem dX49_share_228 : decode cX49_share 228 = .ok (.iload_n 1, 1) := dk_27 (dk_at dksX49_share_9 14 rfl rfl)
theorem dX49_share_229 : decode cX49_share 229 = .ok (.imul, 1) := dk_104 (dk_at dksX49_share_9 15 rfl rfl)
theorem dX49_share_230 : decode cX49_share 230 = .ok (.iload_n 2, 1) := dk_28 (dk_at dksX49_share_9 16 rfl rfl)
theorem dX49_share_231 : decode cX49_share 231 = .ok (.iadd, 1) := dk_96 (dk_at dksX49_share_9 17 rfl rfl)
theorem dX49_share_232 : decode cX49_share 232 = .ok (.iaload, 1) := dk_46 (dk_at dksX49_share_9 18 rfl rfl)
theorem dX49_share_233 : decode cX49_share 233 = .ok (.i2l, 1) := dk_133 (dk_at dksX49_share_9 19 rfl rfl)
theorem dX49_share_234 : decode cX49_share 234 = .ok (.lmul, 1) := dk_105 (dk_at dksX49_share_9 20 rfl rfl)
theorem dX49_share_235 : decode cX49_share 235 = .ok (.lload_n 3, 1) := dk_33 (dk_at dksX49_share_9 21 rfl rfl)
theorem dX49_share_236 : decode cX49_share 236 = .ok (.ldiv, 1) := dk_109 (dk_at dksX49_share_9 22 rfl rfl)
theorem dX49_share_237 : decode cX49_share 237 = .ok (.lload 11, 2) := dk_22 11 (dk_at dksX49_share_10 0 rfl rfl)
theorem dX49_share_239 : decode cX49_share 239 = .ok (.lload 7, 2) := dk_22 7 (dk_at dksX49_share_10 2 rfl rfl)
theorem dX49_share_241 : decode cX49_share 241 = .ok (.lcmp, 1) := dk_148 (dk_at dksX49_share_10 4 rfl rfl)
theorem dX49_share_242 : decode cX49_share 242 = .ok (.ifCond .ge 7, 3) := dk_156 0 7 (dk_at dksX49_share_10 5 rfl rfl)
theorem dX49_share_245 : decode cX49_share 245 = .ok (.lconst 1, 1) := dk_10 (dk_at dksX49_share_10 8 rfl rfl)
theorem dX49_share_246 : decode cX49_share 246 = .ok (.goto 4, 3) := dk_167 0 4 (dk_at dksX49_share_10 9 rfl rfl)
theorem dX49_share_249 : decode cX49_share 249 = .ok (.lconst 0, 1) := dk_9 (dk_at dksX49_share_10 12 rfl rfl)
theorem dX49_share_250 : decode cX49_share 250 = .ok (.ladd, 1) := dk_97 (dk_at dksX49_share_10 13 rfl rfl)
theorem dX49_share_251 : decode cX49_share 251 = .ok (.lreturn, 1) := dk_173 (dk_at dksX49_share_10 14 rfl rfl)
abbrev cX49_isTicket : ByteArray := prog_65_method_14_code
def yX49_isTicket : MethodName := ⟨RX49, "isTicket", "(I)Z"⟩
def dkwX49_isTicket_0 : List UInt8 := [42, 3, 181, 0, 67, 27, 155, 0, 15, 27, 42, 180, 0, 112, 162, 0, 7, 4, 167, 0, 4, 3, 172]
abbrev dktX49_isTicket_0 : List UInt8 := dkwX49_isTicket_0 ++ []
theorem dksX49_isTicket_0 : cX49_isTicket.data.toList.drop 0 = dktX49_isTicket_0 := by decide +kernel
theorem dX49_isTicket_0 : decode cX49_isTicket 0 = .ok (.aload_n 0, 1) := dk_42 (dk_at dksX49_isTicket_0 0 rfl rfl)
theorem dX49_isTicket_1 : decode cX49_isTicket 1 = .ok (.iconst 0, 1) := dk_3 (dk_at dksX49_isTicket_0 1 rfl rfl)
theorem dX49_isTicket_2 : decode cX49_isTicket 2 = .ok (.putfield 67, 3) := dk_181 0 67 (dk_at dksX49_isTicket_0 2 rfl rfl)
theorem dX49_isTicket_5 : decode cX49_isTicket 5 = .ok (.iload_n 1, 1) := dk_27 (dk_at dksX49_isTicket_0 5 rfl rfl)
theorem dX49_isTicket_6 : decode cX49_isTicket 6 = .ok (.ifCond .lt 15, 3) := dk_155 0 15 (dk_at dksX49_isTicket_0 6 rfl rfl)
theorem dX49_isTicket_9 : decode cX49_isTicket 9 = .ok (.iload_n 1, 1) := dk_27 (dk_at dksX49_isTicket_0 9 rfl rfl)
theorem dX49_isTicket_10 : decode cX49_isTicket 10 = .ok (.aload_n 0, 1) := dk_42 (dk_at dksX49_isTicket_0 10 rfl rfl)
theorem dX49_isTicket_11 : decode cX49_isTicket 11 = .ok (.getfield 112, 3) := dk_180 0 112 (dk_at dksX49_isTicket_0 11 rfl rfl)
theorem dX49_isTicket_14 : decode cX49_isTicket 14 = .ok (.if_icmp .ge 7, 3) := dk_162 0 7 (dk_at dksX49_isTicket_0 14 rfl rfl)
theorem dX49_isTicket_17 : decode cX49_isTicket 17 = .ok (.iconst 1, 1) := dk_4 (dk_at dksX49_isTicket_0 17 rfl rfl)
theorem dX49_isTicket_18 : decode cX49_isTicket 18 = .ok (.goto 4, 3) := dk_167 0 4 (dk_at dksX49_isTicket_0 18 rfl rfl)
theorem dX49_isTicket_21 : decode cX49_isTicket 21 = .ok (.iconst 0, 1) := dk_3 (dk_at dksX49_isTicket_0 21 rfl rfl)
theorem dX49_isTicket_22 : decode cX49_isTicket 22 = .ok (.ireturn, 1) := dk_172 (dk_at dksX49_isTicket_0 22 rfl rfl)
abbrev cX49_isVoid : ByteArray := prog_65_method_20_code
def yX49_isVoid : MethodName := ⟨RX49, "isVoid", "(I)Z"⟩
def dkwX49_isVoid_0 : List UInt8 := [42, 180, 0, 25, 16, 9, 27, 104, 16, 8, 96, 47, 9, 148, 153, 0, 7, 4, 167, 0, 4, 3, 172]
abbrev dktX49_isVoid_0 : List UInt8 := dkwX49_isVoid_0 ++ []
theorem dksX49_isVoid_0 : cX49_isVoid.data.toList.drop 0 = dktX49_isVoid_0 := by decide +kernel
theorem dX49_isVoid_0 : decode cX49_isVoid 0 = .ok (.aload_n 0, 1) := dk_42 (dk_at dksX49_isVoid_0 0 rfl rfl)
theorem dX49_isVoid_1 : decode cX49_isVoid 1 = .ok (.getfield 25, 3) := dk_180 0 25 (dk_at dksX49_isVoid_0 1 rfl rfl)
theorem dX49_isVoid_4 : decode cX49_isVoid 4 = .ok (.bipush 9, 2) := dk_16 9 (dk_at dksX49_isVoid_0 4 rfl rfl)
theorem dX49_isVoid_6 : decode cX49_isVoid 6 = .ok (.iload_n 1, 1) := dk_27 (dk_at dksX49_isVoid_0 6 rfl rfl)
theorem dX49_isVoid_7 : decode cX49_isVoid 7 = .ok (.imul, 1) := dk_104 (dk_at dksX49_isVoid_0 7 rfl rfl)
theorem dX49_isVoid_8 : decode cX49_isVoid 8 = .ok (.bipush 8, 2) := dk_16 8 (dk_at dksX49_isVoid_0 8 rfl rfl)
theorem dX49_isVoid_10 : decode cX49_isVoid 10 = .ok (.iadd, 1) := dk_96 (dk_at dksX49_isVoid_0 10 rfl rfl)
theorem dX49_isVoid_11 : decode cX49_isVoid 11 = .ok (.laload, 1) := dk_47 (dk_at dksX49_isVoid_0 11 rfl rfl)
theorem dX49_isVoid_12 : decode cX49_isVoid 12 = .ok (.lconst 0, 1) := dk_9 (dk_at dksX49_isVoid_0 12 rfl rfl)
theorem dX49_isVoid_13 : decode cX49_isVoid 13 = .ok (.lcmp, 1) := dk_148 (dk_at dksX49_isVoid_0 13 rfl rfl)
theorem dX49_isVoid_14 : decode cX49_isVoid 14 = .ok (.ifCond .eq 7, 3) := dk_153 0 7 (dk_at dksX49_isVoid_0 14 rfl rfl)
theorem dX49_isVoid_17 : decode cX49_isVoid 17 = .ok (.iconst 1, 1) := dk_4 (dk_at dksX49_isVoid_0 17 rfl rfl)
theorem dX49_isVoid_18 : decode cX49_isVoid 18 = .ok (.goto 4, 3) := dk_167 0 4 (dk_at dksX49_isVoid_0 18 rfl rfl)
theorem dX49_isVoid_21 : decode cX49_isVoid 21 = .ok (.iconst 0, 1) := dk_3 (dk_at dksX49_isVoid_0 21 rfl rfl)
theorem dX49_isVoid_22 : decode cX49_isVoid 22 = .ok (.ireturn, 1) := dk_172 (dk_at dksX49_isVoid_0 22 rfl rfl)
abbrev cX49_at : ByteArray := prog_65_method_23_code
def yX49_at : MethodName := ⟨RX49, "at", "(II)J"⟩
def dkwX49_at_2 : List UInt8 := [47, 101, 167, 0, 14, 42, 180, 0, 25, 16, 9, 27, 104, 28, 96, 47, 173]
abbrev dktX49_at_2 : List UInt8 := dkwX49_at_2 ++ []
def dkwX49_at_1 : List UInt8 := [160, 0, 29, 42, 180, 0, 25, 16, 9, 27, 104, 6, 96, 47, 42, 180, 0, 25, 16, 9, 27, 104, 7, 96]
abbrev dktX49_at_1 : List UInt8 := dkwX49_at_1 ++ dktX49_at_2
def dkwX49_at_0 : List UInt8 := [42, 27, 182, 0, 159, 153, 0, 13, 28, 155, 0, 9, 28, 16, 8, 164, 0, 7, 20, 0, 136, 173, 28, 8]
abbrev dktX49_at_0 : List UInt8 := dkwX49_at_0 ++ dktX49_at_1
theorem dksX49_at_0 : cX49_at.data.toList.drop 0 = dktX49_at_0 := by decide +kernel
theorem dksX49_at_1 : cX49_at.data.toList.drop 24 = dktX49_at_1 := dk_seg dksX49_at_0 24 rfl rfl
theorem dksX49_at_2 : cX49_at.data.toList.drop 48 = dktX49_at_2 := dk_seg dksX49_at_1 24 rfl rfl
theorem dX49_at_0 : decode cX49_at 0 = .ok (.aload_n 0, 1) := dk_42 (dk_at dksX49_at_0 0 rfl rfl)
theorem dX49_at_1 : decode cX49_at 1 = .ok (.iload_n 1, 1) := dk_27 (dk_at dksX49_at_0 1 rfl rfl)
theorem dX49_at_2 : decode cX49_at 2 = .ok (.invokevirtual 159, 3) := dk_182 0 159 (dk_at dksX49_at_0 2 rfl rfl)
theorem dX49_at_5 : decode cX49_at 5 = .ok (.ifCond .eq 13, 3) := dk_153 0 13 (dk_at dksX49_at_0 5 rfl rfl)
theorem dX49_at_8 : decode cX49_at 8 = .ok (.iload_n 2, 1) := dk_28 (dk_at dksX49_at_0 8 rfl rfl)
theorem dX49_at_9 : decode cX49_at 9 = .ok (.ifCond .lt 9, 3) := dk_155 0 9 (dk_at dksX49_at_0 9 rfl rfl)
theorem dX49_at_12 : decode cX49_at 12 = .ok (.iload_n 2, 1) := dk_28 (dk_at dksX49_at_0 12 rfl rfl)
theorem dX49_at_13 : decode cX49_at 13 = .ok (.bipush 8, 2) := dk_16 8 (dk_at dksX49_at_0 13 rfl rfl)
theorem dX49_at_15 : decode cX49_at 15 = .ok (.if_icmp .le 7, 3) := dk_164 0 7 (dk_at dksX49_at_0 15 rfl rfl)
theorem dX49_at_18 : decode cX49_at 18 = .ok (.ldc2_w 136, 3) := dk_20 0 136 (dk_at dksX49_at_0 18 rfl rfl)
theorem dX49_at_21 : decode cX49_at 21 = .ok (.lreturn, 1) := dk_173 (dk_at dksX49_at_0 21 rfl rfl)
theorem dX49_at_22 : decode cX49_at 22 = .ok (.iload_n 2, 1) := dk_28 (dk_at dksX49_at_0 22 rfl rfl)
theorem dX49_at_23 : decode cX49_at 23 = .ok (.iconst 5, 1) := dk_8 (dk_at dksX49_at_0 23 rfl rfl)
theorem dX49_at_24 : decode cX49_at 24 = .ok (.if_icmp .ne 29, 3) := dk_160 0 29 (dk_at dksX49_at_1 0 rfl rfl)
theorem dX49_at_27 : decode cX49_at 27 = .ok (.aload_n 0, 1) := dk_42 (dk_at dksX49_at_1 3 rfl rfl)
theorem dX49_at_28 : decode cX49_at 28 = .ok (.getfield 25, 3) := dk_180 0 25 (dk_at dksX49_at_1 4 rfl rfl)
theorem dX49_at_31 : decode cX49_at 31 = .ok (.bipush 9, 2) := dk_16 9 (dk_at dksX49_at_1 7 rfl rfl)
theorem dX49_at_33 : decode cX49_at 33 = .ok (.iload_n 1, 1) := dk_27 (dk_at dksX49_at_1 9 rfl rfl)
theorem dX49_at_34 : decode cX49_at 34 = .ok (.imul, 1) := dk_104 (dk_at dksX49_at_1 10 rfl rfl)
theorem dX49_at_35 : decode cX49_at 35 = .ok (.iconst 3, 1) := dk_6 (dk_at dksX49_at_1 11 rfl rfl)
theorem dX49_at_36 : decode cX49_at 36 = .ok (.iadd, 1) := dk_96 (dk_at dksX49_at_1 12 rfl rfl)
theorem dX49_at_37 : decode cX49_at 37 = .ok (.laload, 1) := dk_47 (dk_at dksX49_at_1 13 rfl rfl)
theorem dX49_at_38 : decode cX49_at 38 = .ok (.aload_n 0, 1) := dk_42 (dk_at dksX49_at_1 14 rfl rfl)
theorem dX49_at_39 : decode cX49_at 39 = .ok (.getfield 25, 3) := dk_180 0 25 (dk_at dksX49_at_1 15 rfl rfl)
theorem dX49_at_42 : decode cX49_at 42 = .ok (.bipush 9, 2) := dk_16 9 (dk_at dksX49_at_1 18 rfl rfl)
theorem dX49_at_44 : decode cX49_at 44 = .ok (.iload_n 1, 1) := dk_27 (dk_at dksX49_at_1 20 rfl rfl)
theorem dX49_at_45 : decode cX49_at 45 = .ok (.imul, 1) := dk_104 (dk_at dksX49_at_1 21 rfl rfl)
theorem dX49_at_46 : decode cX49_at 46 = .ok (.iconst 4, 1) := dk_7 (dk_at dksX49_at_1 22 rfl rfl)
theorem dX49_at_47 : decode cX49_at 47 = .ok (.iadd, 1) := dk_96 (dk_at dksX49_at_1 23 rfl rfl)
theorem dX49_at_48 : decode cX49_at 48 = .ok (.laload, 1) := dk_47 (dk_at dksX49_at_2 0 rfl rfl)
theorem dX49_at_49 : decode cX49_at 49 = .ok (.lsub, 1) := dk_101 (dk_at dksX49_at_2 1 rfl rfl)
theorem dX49_at_50 : decode cX49_at 50 = .ok (.goto 14, 3) := dk_167 0 14 (dk_at dksX49_at_2 2 rfl rfl)
theorem dX49_at_53 : decode cX49_at 53 = .ok (.aload_n 0, 1) := dk_42 (dk_at dksX49_at_2 5 rfl rfl)
theorem dX49_at_54 : decode cX49_at 54 = .ok (.getfield 25, 3) := dk_180 0 25 (dk_at dksX49_at_2 6 rfl rfl)
theorem dX49_at_57 : decode cX49_at 57 = .ok (.bipush 9, 2) := dk_16 9 (dk_at dksX49_at_2 9 rfl rfl)
theorem dX49_at_59 : decode cX49_at 59 = .ok (.iload_n 1, 1) := dk_27 (dk_at dksX49_at_2 11 rfl rfl)
theorem dX49_at_60 : decode cX49_at 60 = .ok (.imul, 1) := dk_104 (dk_at dksX49_at_2 12 rfl rfl)
theorem dX49_at_61 : decode cX49_at 61 = .ok (.iload_n 2, 1) := dk_28 (dk_at dksX49_at_2 13 rfl rfl)
theorem dX49_at_62 : decode cX49_at 62 = .ok (.iadd, 1) := dk_96 (dk_at dksX49_at_2 14 rfl rfl)
theorem dX49_at_63 : decode cX49_at 63 = .ok (.laload, 1) := dk_47 (dk_at dksX49_at_2 15 rfl rfl)
theorem dX49_at_64 : decode cX49_at 64 = .ok (.lreturn, 1) := dk_173 (dk_at dksX49_at_2 16 rfl rfl)
abbrev cX49_check : ByteArray := prog_65_method_37_code
def yX49_check : MethodName := ⟨RX49, "check", "(I)I"⟩
def dkwX49_check_3 : List UInt8 := [132, 3, 1, 167, 255, 220, 132, 2, 1, 167, 255, 199, 3, 172]
abbrev dktX49_check_3 : List UInt8 := dkwX49_check_3 ++ []
def dkwX49_check_2 : List UInt8 := [16, 73, 28, 104, 16, 41, 96, 29, 96, 51, 42, 180, 0, 45, 29, 51, 159, 0, 7, 4, 28, 96, 172]
abbrev dktX49_check_2 : List UInt8 := dkwX49_check_2 ++ dktX49_check_3
def dkwX49_check_1 : List UInt8 := [180, 0, 98, 162, 0, 55, 42, 28, 182, 0, 101, 3, 62, 29, 16, 32, 162, 0, 36, 42, 180, 0, 35]
abbrev dktX49_check_1 : List UInt8 := dkwX49_check_1 ++ dktX49_check_2
def dkwX49_check_0 : List UInt8 := [42, 3, 181, 0, 67, 27, 155, 0, 11, 27, 42, 180, 0, 98, 164, 0, 5, 2, 172, 27, 61, 28, 42]
abbrev dktX49_check_0 : List UInt8 := dkwX49_check_0 ++ dktX49_check_1
theorem dksX49_check_0 : cX49_check.data.toList.drop 0 = dktX49_check_0 := by decide +kernel
theorem dksX49_check_1 : cX49_check.data.toList.drop 23 = dktX49_check_1 := dk_seg dksX49_check_0 23 rfl rfl
theorem dksX49_check_2 : cX49_check.data.toList.drop 46 = dktX49_check_2 := dk_seg dksX49_check_1 23 rfl rfl
theorem dksX49_check_3 : cX49_check.data.toList.drop 69 = dktX49_check_3 := dk_seg dksX49_check_2 23 rfl rfl
theorem dX49_check_0 : decode cX49_check 0 = .ok (.aload_n 0, 1) := dk_42 (dk_at dksX49_check_0 0 rfl rfl)
theorem dX49_check_1 : decode cX49_check 1 = .ok (.iconst 0, 1) := dk_3 (dk_at dksX49_check_0 1 rfl rfl)
theorem dX49_check_2 : decode cX49_check 2 = .ok (.putfield 67, 3) := dk_181 0 67 (dk_at dksX49_check_0 2 rfl rfl)
theorem dX49_check_5 : decode cX49_check 5 = .ok (.iload_n 1, 1) := dk_27 (dk_at dksX49_check_0 5 rfl rfl)
theorem dX49_check_6 : decode cX49_check 6 = .ok (.ifCond .lt 11, 3) := dk_155 0 11 (dk_at dksX49_check_0 6 rfl rfl)
theorem dX49_check_9 : decode cX49_check 9 = .ok (.iload_n 1, 1) := dk_27 (dk_at dksX49_check_0 9 rfl rfl)
theorem dX49_check_10 : decode cX49_check 10 = .ok (.aload_n 0, 1) := dk_42 (dk_at dksX49_check_0 10 rfl rfl)
theorem dX49_check_11 : decode cX49_check 11 = .ok (.getfield 98, 3) := dk_180 0 98 (dk_at dksX49_check_0 11 rfl rfl)
theorem dX49_check_14 : decode cX49_check 14 = .ok (.if_icmp .le 5, 3) := dk_164 0 5 (dk_at dksX49_check_0 14 rfl rfl)
theorem dX49_check_17 : decode cX49_check 17 = .ok (.iconst (-1), 1) := dk_2 (dk_at dksX49_check_0 17 rfl rfl)
theorem dX49_check_18 : decode cX49_check 18 = .ok (.ireturn, 1) := dk_172 (dk_at dksX49_check_0 18 rfl rfl)
theorem dX49_check_19 : decode cX49_check 19 = .ok (.iload_n 1, 1) := dk_27 (dk_at dksX49_check_0 19 rfl rfl)
theorem dX49_check_20 : decode cX49_check 20 = .ok (.istore_n 2, 1) := dk_61 (dk_at dksX49_check_0 20 rfl rfl)
theorem dX49_check_21 : decode cX49_check 21 = .ok (.iload_n 2, 1) := dk_28 (dk_at dksX49_check_0 21 rfl rfl)
theorem dX49_check_22 : decode cX49_check 22 = .ok (.aload_n 0, 1) := dk_42 (dk_at dksX49_check_0 22 rfl rfl)
theorem dX49_check_23 : decode cX49_check 23 = .ok (.getfield 98, 3) := dk_180 0 98 (dk_at dksX49_check_1 0 rfl rfl)
theorem dX49_check_26 : decode cX49_check 26 = .ok (.if_icmp .ge 55, 3) := dk_162 0 55 (dk_at dksX49_check_1 3 rfl rfl)
theorem dX49_check_29 : decode cX49_check 29 = .ok (.aload_n 0, 1) := dk_42 (dk_at dksX49_check_1 6 rfl rfl)
theorem dX49_check_30 : decode cX49_check 30 = .ok (.iload_n 2, 1) := dk_28 (dk_at dksX49_check_1 7 rfl rfl)
theorem dX49_check_31 : decode cX49_check 31 = .ok (.invokevirtual 101, 3) := dk_182 0 101 (dk_at dksX49_check_1 8 rfl rfl)
theorem dX49_check_34 : decode cX49_check 34 = .ok (.iconst 0, 1) := dk_3 (dk_at dksX49_check_1 11 rfl rfl)
theorem dX49_check_35 : decode cX49_check 35 = .ok (.istore_n 3, 1) := dk_62 (dk_at dksX49_check_1 12 rfl rfl)
theorem dX49_check_36 : decode cX49_check 36 = .ok (.iload_n 3, 1) := dk_29 (dk_at dksX49_check_1 13 rfl rfl)
theorem dX49_check_37 : decode cX49_check 37 = .ok (.bipush 32, 2) := dk_16 32 (dk_at dksX49_check_1 14 rfl rfl)
theorem dX49_check_39 : decode cX49_check 39 = .ok (.if_icmp .ge 36, 3) := dk_162 0 36 (dk_at dksX49_check_1 16 rfl rfl)
theorem dX49_check_42 : decode cX49_check 42 = .ok (.aload_n 0, 1) := dk_42 (dk_at dksX49_check_1 19 rfl rfl)
theorem dX49_check_43 : decode cX49_check 43 = .ok (.getfield 35, 3) := dk_180 0 35 (dk_at dksX49_check_1 20 rfl rfl)
theorem dX49_check_46 : decode cX49_check 46 = .ok (.bipush 73, 2) := dk_16 73 (dk_at dksX49_check_2 0 rfl rfl)
theorem dX49_check_48 : decode cX49_check 48 = .ok (.iload_n 2, 1) := dk_28 (dk_at dksX49_check_2 2 rfl rfl)
theorem dX49_check_49 : decode cX49_check 49 = .ok (.imul, 1) := dk_104 (dk_at dksX49_check_2 3 rfl rfl)
theorem dX49_check_50 : decode cX49_check 50 = .ok (.bipush 41, 2) := dk_16 41 (dk_at dksX49_check_2 4 rfl rfl)
theorem dX49_check_52 : decode cX49_check 52 = .ok (.iadd, 1) := dk_96 (dk_at dksX49_check_2 6 rfl rfl)
theorem dX49_check_53 : decode cX49_check 53 = .ok (.iload_n 3, 1) := dk_29 (dk_at dksX49_check_2 7 rfl rfl)
theorem dX49_check_54 : decode cX49_check 54 = .ok (.iadd, 1) := dk_96 (dk_at dksX49_check_2 8 rfl rfl)
theorem dX49_check_55 : decode cX49_check 55 = .ok (.baload, 1) := dk_51 (dk_at dksX49_check_2 9 rfl rfl)
theorem dX49_check_56 : decode cX49_check 56 = .ok (.aload_n 0, 1) := dk_42 (dk_at dksX49_check_2 10 rfl rfl)
theorem dX49_check_57 : decode cX49_check 57 = .ok (.getfield 45, 3) := dk_180 0 45 (dk_at dksX49_check_2 11 rfl rfl)
theorem dX49_check_60 : decode cX49_check 60 = .ok (.iload_n 3, 1) := dk_29 (dk_at dksX49_check_2 14 rfl rfl)
theorem dX49_check_61 : decode cX49_check 61 = .ok (.baload, 1) := dk_51 (dk_at dksX49_check_2 15 rfl rfl)
theorem dX49_check_62 : decode cX49_check 62 = .ok (.if_icmp .eq 7, 3) := dk_159 0 7 (dk_at dksX49_check_2 16 rfl rfl)
theorem dX49_check_65 : decode cX49_check 65 = .ok (.iconst 1, 1) := dk_4 (dk_at dksX49_check_2 19 rfl rfl)
theorem dX49_check_66 : decode cX49_check 66 = .ok (.iload_n 2, 1) := dk_28 (dk_at dksX49_check_2 20 rfl rfl)
theorem dX49_check_67 : decode cX49_check 67 = .ok (.iadd, 1) := dk_96 (dk_at dksX49_check_2 21 rfl rfl)
theorem dX49_check_68 : decode cX49_check 68 = .ok (.ireturn, 1) := dk_172 (dk_at dksX49_check_2 22 rfl rfl)
theorem dX49_check_69 : decode cX49_check 69 = .ok (.iinc 3 1, 3) := dk_132 3 1 (dk_at dksX49_check_3 0 rfl rfl)
theorem dX49_check_72 : decode cX49_check 72 = .ok (.goto (-36), 3) := dk_167 255 220 (dk_at dksX49_check_3 3 rfl rfl)
theorem dX49_check_75 : decode cX49_check 75 = .ok (.iinc 2 1, 3) := dk_132 2 1 (dk_at dksX49_check_3 6 rfl rfl)
theorem dX49_check_78 : decode cX49_check 78 = .ok (.goto (-57), 3) := dk_167 255 199 (dk_at dksX49_check_3 9 rfl rfl)
theorem dX49_check_81 : decode cX49_check 81 = .ok (.iconst 0, 1) := dk_3 (dk_at dksX49_check_3 12 rfl rfl)
theorem dX49_check_82 : decode cX49_check 82 = .ok (.ireturn, 1) := dk_172 (dk_at dksX49_check_3 13 rfl rfl)
abbrev cX49_follows : ByteArray := prog_65_method_17_code
def yX49_follows : MethodName := ⟨RX49, "follows", "(IIJ)Z"⟩
def dkwX49_follows_5 : List UInt8 := [4, 96, 167, 0, 7, 42, 180, 0, 133, 181, 0, 133, 4, 172]
abbrev dktX49_follows_5 : List UInt8 := dkwX49_follows_5 ++ []
def dkwX49_follows_4 : List UInt8 := [79, 42, 180, 0, 22, 21, 5, 33, 136, 79, 42, 21, 5, 42, 180, 0, 133, 160, 0, 12, 42, 180, 0, 133]
abbrev dktX49_follows_4 : List UInt8 := dkwX49_follows_4 ++ dktX49_follows_5
def dkwX49_follows_3 : List UInt8 := [159, 0, 9, 132, 5, 1, 167, 255, 222, 42, 180, 0, 16, 21, 5, 27, 79, 42, 180, 0, 19, 21, 5, 28]
abbrev dktX49_follows_3 : List UInt8 := dkwX49_follows_3 ++ dktX49_follows_4
def dkwX49_follows_2 : List UInt8 := [162, 0, 31, 42, 180, 0, 16, 21, 5, 46, 27, 160, 0, 14, 42, 180, 0, 19, 21, 5, 46, 28]
abbrev dktX49_follows_2 : List UInt8 := dkwX49_follows_2 ++ dktX49_follows_3
def dkwX49_follows_1 : List UInt8 := [153, 0, 13, 33, 20, 0, 125, 184, 0, 119, 154, 0, 5, 3, 172, 3, 54, 5, 21, 5, 42, 180, 0, 133]
abbrev dktX49_follows_1 : List UInt8 := dkwX49_follows_1 ++ dktX49_follows_2
def dkwX49_follows_0 : List UInt8 := [42, 3, 181, 0, 67, 27, 133, 20, 0, 131, 184, 0, 119, 153, 0, 24, 28, 133, 20, 0, 117, 184, 0, 119]
abbrev dktX49_follows_0 : List UInt8 := dkwX49_follows_0 ++ dktX49_follows_1
theorem dksX49_follows_0 : cX49_follows.data.toList.drop 0 = dktX49_follows_0 := by decide +kernel
theorem dksX49_follows_1 : cX49_follows.data.toList.drop 24 = dktX49_follows_1 := dk_seg dksX49_follows_0 24 rfl rfl
theorem dksX49_follows_2 : cX49_follows.data.toList.drop 48 = dktX49_follows_2 := dk_seg dksX49_follows_1 24 rfl rfl
theorem dksX49_follows_3 : cX49_follows.data.toList.drop 70 = dktX49_follows_3 := dk_seg dksX49_follows_2 22 rfl rfl
theorem dksX49_follows_4 : cX49_follows.data.toList.drop 94 = dktX49_follows_4 := dk_seg dksX49_follows_3 24 rfl rfl
theorem dksX49_follows_5 : cX49_follows.data.toList.drop 118 = dktX49_follows_5 := dk_seg dksX49_follows_4 24 rfl rfl
theorem dX49_follows_0 : decode cX49_follows 0 = .ok (.aload_n 0, 1) := dk_42 (dk_at dksX49_follows_0 0 rfl rfl)
theorem dX49_follows_1 : decode cX49_follows 1 = .ok (.iconst 0, 1) := dk_3 (dk_at dksX49_follows_0 1 rfl rfl)
theorem dX49_follows_2 : decode cX49_follows 2 = .ok (.putfield 67, 3) := dk_181 0 67 (dk_at dksX49_follows_0 2 rfl rfl)
theorem dX49_follows_5 : decode cX49_follows 5 = .ok (.iload_n 1, 1) := dk_27 (dk_at dksX49_follows_0 5 rfl rfl)
theorem dX49_follows_6 : decode cX49_follows 6 = .ok (.i2l, 1) := dk_133 (dk_at dksX49_follows_0 6 rfl rfl)
theorem dX49_follows_7 : decode cX49_follows 7 = .ok (.ldc2_w 131, 3) := dk_20 0 131 (dk_at dksX49_follows_0 7 rfl rfl)
theorem dX49_follows_10 : decode cX49_follows 10 = .ok (.invokestatic 119, 3) := dk_184 0 119 (dk_at dksX49_follows_0 10 rfl rfl)
theorem dX49_follows_13 : decode cX49_follows 13 = .ok (.ifCond .eq 24, 3) := dk_153 0 24 (dk_at dksX49_follows_0 13 rfl rfl)
theorem dX49_follows_16 : decode cX49_follows 16 = .ok (.iload_n 2, 1) := dk_28 (dk_at dksX49_follows_0 16 rfl rfl)
theorem dX49_follows_17 : decode cX49_follows 17 = .ok (.i2l, 1) := dk_133 (dk_at dksX49_follows_0 17 rfl rfl)
theorem dX49_follows_18 : decode cX49_follows 18 = .ok (.ldc2_w 117, 3) := dk_20 0 117 (dk_at dksX49_follows_0 18 rfl rfl)
theorem dX49_follows_21 : decode cX49_follows 21 = .ok (.invokestatic 119, 3) := dk_184 0 119 (dk_at dksX49_follows_0 21 rfl rfl)
theorem dX49_follows_24 : decode cX49_follows 24 = .ok (.ifCond .eq 13, 3) := dk_153 0 13 (dk_at dksX49_follows_1 0 rfl rfl)
theorem dX49_follows_27 : decode cX49_follows 27 = .ok (.lload_n 3, 1) := dk_33 (dk_at dksX49_follows_1 3 rfl rfl)
theorem dX49_follows_28 : decode cX49_follows 28 = .ok (.ldc2_w 125, 3) := dk_20 0 125 (dk_at dksX49_follows_1 4 rfl rfl)
theorem dX49_follows_31 : decode cX49_follows 31 = .ok (.invokestatic 119, 3) := dk_184 0 119 (dk_at dksX49_follows_1 7 rfl rfl)
theorem dX49_follows_34 : decode cX49_follows 34 = .ok (.ifCond .ne 5, 3) := dk_154 0 5 (dk_at dksX49_follows_1 10 rfl rfl)
theorem dX49_follows_37 : decode cX49_follows 37 = .ok (.iconst 0, 1) := dk_3 (dk_at dksX49_follows_1 13 rfl rfl)
theorem dX49_follows_38 : decode cX49_follows 38 = .ok (.ireturn, 1) := dk_172 (dk_at dksX49_follows_1 14 rfl rfl)
theorem dX49_follows_39 : decode cX49_follows 39 = .ok (.iconst 0, 1) := dk_3 (dk_at dksX49_follows_1 15 rfl rfl)
theorem dX49_follows_40 : decode cX49_follows 40 = .ok (.istore 5, 2) := dk_54 5 (dk_at dksX49_follows_1 16 rfl rfl)
theorem dX49_follows_42 : decode cX49_follows 42 = .ok (.iload 5, 2) := dk_21 5 (dk_at dksX49_follows_1 18 rfl rfl)
theorem dX49_follows_44 : decode cX49_follows 44 = .ok (.aload_n 0, 1) := dk_42 (dk_at dksX49_follows_1 20 rfl rfl)
theorem dX49_follows_45 : decode cX49_follows 45 = .ok (.getfield 133, 3) := dk_180 0 133 (dk_at dksX49_follows_1 21 rfl rfl)
theorem dX49_follows_48 : decode cX49_follows 48 = .ok (.if_icmp .ge 31, 3) := dk_162 0 31 (dk_at dksX49_follows_2 0 rfl rfl)
theorem dX49_follows_51 : decode cX49_follows 51 = .ok (.aload_n 0, 1) := dk_42 (dk_at dksX49_follows_2 3 rfl rfl)
theorem dX49_follows_52 : decode cX49_follows 52 = .ok (.getfield 16, 3) := dk_180 0 16 (dk_at dksX49_follows_2 4 rfl rfl)
theorem dX49_follows_55 : decode cX49_follows 55 = .ok (.iload 5, 2) := dk_21 5 (dk_at dksX49_follows_2 7 rfl rfl)
theorem dX49_follows_57 : decode cX49_follows 57 = .ok (.iaload, 1) := dk_46 (dk_at dksX49_follows_2 9 rfl rfl)
theorem dX49_follows_58 : decode cX49_follows 58 = .ok (.iload_n 1, 1) := dk_27 (dk_at dksX49_follows_2 10 rfl rfl)
theorem dX49_follows_59 : decode cX49_follows 59 = .ok (.if_icmp .ne 14, 3) := dk_160 0 14 (dk_at dksX49_follows_2 11 rfl rfl)
theorem dX49_follows_62 : decode cX49_follows 62 = .ok (.aload_n 0, 1) := dk_42 (dk_at dksX49_follows_2 14 rfl rfl)
theorem dX49_follows_63 : decode cX49_follows 63 = .ok (.getfield 19, 3) := dk_180 0 19 (dk_at dksX49_follows_2 15 rfl rfl)
theorem dX49_follows_66 : decode cX49_follows 66 = .ok (.iload 5, 2) := dk_21 5 (dk_at dksX49_follows_2 18 rfl rfl)
theorem dX49_follows_68 : decode cX49_follows 68 = .ok (.iaload, 1) := dk_46 (dk_at dksX49_follows_2 20 rfl rfl)
theorem dX49_follows_69 : decode cX49_follows 69 = .ok (.iload_n 2, 1) := dk_28 (dk_at dksX49_follows_2 21 rfl rfl)
theorem dX49_follows_70 : decode cX49_follows 70 = .ok (.if_icmp .eq 9, 3) := dk_159 0 9 (dk_at dksX49_follows_3 0 rfl rfl)
theorem dX49_follows_73 : decode cX49_follows 73 = .ok (.iinc 5 1, 3) := dk_132 5 1 (dk_at dksX49_follows_3 3 rfl rfl)
theorem dX49_follows_76 : decode cX49_follows 76 = .ok (.goto (-34), 3) := dk_167 255 222 (dk_at dksX49_follows_3 6 rfl rfl)
theorem dX49_follows_79 : decode cX49_follows 79 = .ok (.aload_n 0, 1) := dk_42 (dk_at dksX49_follows_3 9 rfl rfl)
theorem dX49_follows_80 : decode cX49_follows 80 = .ok (.getfield 16, 3) := dk_180 0 16 (dk_at dksX49_follows_3 10 rfl rfl)
theorem dX49_follows_83 : decode cX49_follows 83 = .ok (.iload 5, 2) := dk_21 5 (dk_at dksX49_follows_3 13 rfl rfl)
theorem dX49_follows_85 : decode cX49_follows 85 = .ok (.iload_n 1, 1) := dk_27 (dk_at dksX49_follows_3 15 rfl rfl)
theorem dX49_follows_86 : decode cX49_follows 86 = .ok (.iastore, 1) := dk_79 (dk_at dksX49_follows_3 16 rfl rfl)
theorem dX49_follows_87 : decode cX49_follows 87 = .ok (.aload_n 0, 1) := dk_42 (dk_at dksX49_follows_3 17 rfl rfl)
theorem dX49_follows_88 : decode cX49_follows 88 = .ok (.getfield 19, 3) := dk_180 0 19 (dk_at dksX49_follows_3 18 rfl rfl)
theorem dX49_follows_91 : decode cX49_follows 91 = .ok (.iload 5, 2) := dk_21 5 (dk_at dksX49_follows_3 21 rfl rfl)
theorem dX49_follows_93 : decode cX49_follows 93 = .ok (.iload_n 2, 1) := dk_28 (dk_at dksX49_follows_3 23 rfl rfl)
theorem dX49_follows_94 : decode cX49_follows 94 = .ok (.iastore, 1) := dk_79 (dk_at dksX49_follows_4 0 rfl rfl)
theorem dX49_follows_95 : decode cX49_follows 95 = .ok (.aload_n 0, 1) := dk_42 (dk_at dksX49_follows_4 1 rfl rfl)
theorem dX49_follows_96 : decode cX49_follows 96 = .ok (.getfield 22, 3) := dk_180 0 22 (dk_at dksX49_follows_4 2 rfl rfl)
theorem dX49_follows_99 : decode cX49_follows 99 = .ok (.iload 5, 2) := dk_21 5 (dk_at dksX49_follows_4 5 rfl rfl)
theorem dX49_follows_101 : decode cX49_follows 101 = .ok (.lload_n 3, 1) := dk_33 (dk_at dksX49_follows_4 7 rfl rfl)
theorem dX49_follows_102 : decode cX49_follows 102 = .ok (.l2i, 1) := dk_136 (dk_at dksX49_follows_4 8 rfl rfl)
theorem dX49_follows_103 : decode cX49_follows 103 = .ok (.iastore, 1) := dk_79 (dk_at dksX49_follows_4 9 rfl rfl)
theorem dX49_follows_104 : decode cX49_follows 104 = .ok (.aload_n 0, 1) := dk_42 (dk_at dksX49_follows_4 10 rfl rfl)
theorem dX49_follows_105 : decode cX49_follows 105 = .ok (.iload 5, 2) := dk_21 5 (dk_at dksX49_follows_4 11 rfl rfl)
theorem dX49_follows_107 : decode cX49_follows 107 = .ok (.aload_n 0, 1) := dk_42 (dk_at dksX49_follows_4 13 rfl rfl)
theorem dX49_follows_108 : decode cX49_follows 108 = .ok (.getfield 133, 3) := dk_180 0 133 (dk_at dksX49_follows_4 14 rfl rfl)
theorem dX49_follows_111 : decode cX49_follows 111 = .ok (.if_icmp .ne 12, 3) := dk_160 0 12 (dk_at dksX49_follows_4 17 rfl rfl)
theorem dX49_follows_114 : decode cX49_follows 114 = .ok (.aload_n 0, 1) := dk_42 (dk_at dksX49_follows_4 20 rfl rfl)
theorem dX49_follows_115 : decode cX49_follows 115 = .ok (.getfield 133, 3) := dk_180 0 133 (dk_at dksX49_follows_4 21 rfl rfl)
theorem dX49_follows_118 : decode cX49_follows 118 = .ok (.iconst 1, 1) := dk_4 (dk_at dksX49_follows_5 0 rfl rfl)
theorem dX49_follows_119 : decode cX49_follows 119 = .ok (.iadd, 1) := dk_96 (dk_at dksX49_follows_5 1 rfl rfl)
theorem dX49_follows_120 : decode cX49_follows 120 = .ok (.goto 7, 3) := dk_167 0 7 (dk_at dksX49_follows_5 2 rfl rfl)
theorem dX49_follows_123 : decode cX49_follows 123 = .ok (.aload_n 0, 1) := dk_42 (dk_at dksX49_follows_5 5 rfl rfl)
theorem dX49_follows_124 : decode cX49_follows 124 = .ok (.getfield 133, 3) := dk_180 0 133 (dk_at dksX49_follows_5 6 rfl rfl)
theorem dX49_follows_127 : decode cX49_follows 127 = .ok (.putfield 133, 3) := dk_181 0 133 (dk_at dksX49_follows_5 9 rfl rfl)
theorem dX49_follows_130 : decode cX49_follows 130 = .ok (.iconst 1, 1) := dk_4 (dk_at dksX49_follows_5 12 rfl rfl)
theorem dX49_follows_131 : decode cX49_follows 131 = .ok (.ireturn, 1) := dk_172 (dk_at dksX49_follows_5 13 rfl rfl)
abbrev cX49_correct : ByteArray := prog_65_method_21_code
def yX49_correct : MethodName := ⟨RX49, "correct", "(IIJI)I"⟩
def dkwX49_correct_6 : List UInt8 := [42, 21, 10, 21, 5, 133, 7, 182, 0, 108, 54, 10, 42, 27, 182, 0, 155, 172]
abbrev dktX49_correct_6 : List UInt8 := dkwX49_correct_6 ++ []
def dkwX49_correct_5 : List UInt8 := [54, 10, 42, 21, 10, 28, 133, 7, 182, 0, 108, 54, 10, 42, 21, 10, 33, 16, 8, 182, 0, 108, 54, 10]
abbrev dktX49_correct_5 : List UInt8 := dkwX49_correct_5 ++ dktX49_correct_6
def dkwX49_correct_4 : List UInt8 := [148, 156, 0, 5, 2, 172, 42, 180, 0, 25, 16, 9, 27, 104, 28, 96, 33, 80, 42, 5, 27, 182, 0, 152]
abbrev dktX49_correct_4 : List UInt8 := dkwX49_correct_4 ++ dktX49_correct_5
def dkwX49_correct_3 : List UInt8 := [160, 0, 7, 33, 167, 0, 14, 42, 180, 0, 25, 16, 9, 27, 104, 7, 96, 47, 55, 8, 22, 6, 22, 8]
abbrev dktX49_correct_3 : List UInt8 := dkwX49_correct_3 ++ dktX49_correct_4
def dkwX49_correct_2 : List UInt8 := [6, 160, 0, 7, 33, 167, 0, 14, 42, 180, 0, 25, 16, 9, 27, 104, 6, 96, 47, 55, 6, 28, 7]
abbrev dktX49_correct_2 : List UInt8 := dkwX49_correct_2 ++ dktX49_correct_3
def dkwX49_correct_1 : List UInt8 := [153, 0, 21, 42, 27, 182, 0, 163, 154, 0, 13, 42, 180, 0, 98, 17, 0, 200, 160, 0, 5, 2, 172, 28]
abbrev dktX49_correct_1 : List UInt8 := dkwX49_correct_1 ++ dktX49_correct_2
def dkwX49_correct_0 : List UInt8 := [42, 27, 182, 0, 159, 153, 0, 40, 28, 33, 184, 0, 138, 153, 0, 32, 16, 7, 21, 5, 133, 184, 0, 138]
abbrev dktX49_correct_0 : List UInt8 := dkwX49_correct_0 ++ dktX49_correct_1
theorem dksX49_correct_0 : cX49_correct.data.toList.drop 0 = dktX49_correct_0 := by decide +kernel
theorem dksX49_correct_1 : cX49_correct.data.toList.drop 24 = dktX49_correct_1 := dk_seg dksX49_correct_0 24 rfl rfl
theorem dksX49_correct_2 : cX49_correct.data.toList.drop 48 = dktX49_correct_2 := dk_seg dksX49_correct_1 24 rfl rfl
theorem dksX49_correct_3 : cX49_correct.data.toList.drop 71 = dktX49_correct_3 := dk_seg dksX49_correct_2 23 rfl rfl
theorem dksX49_correct_4 : cX49_correct.data.toList.drop 95 = dktX49_correct_4 := dk_seg dksX49_correct_3 24 rfl rfl
theorem dksX49_correct_5 : cX49_correct.data.toList.drop 119 = dktX49_correct_5 := dk_seg dksX49_correct_4 24 rfl rfl
theorem dksX49_correct_6 : cX49_correct.data.toList.drop 143 = dktX49_correct_6 := dk_seg dksX49_correct_5 24 rfl rfl
theorem dX49_correct_0 : decode cX49_correct 0 = .ok (.aload_n 0, 1) := dk_42 (dk_at dksX49_correct_0 0 rfl rfl)
theorem dX49_correct_1 : decode cX49_correct 1 = .ok (.iload_n 1, 1) := dk_27 (dk_at dksX49_correct_0 1 rfl rfl)
theorem dX49_correct_2 : decode cX49_correct 2 = .ok (.invokevirtual 159, 3) := dk_182 0 159 (dk_at dksX49_correct_0 2 rfl rfl)
theorem dX49_correct_5 : decode cX49_correct 5 = .ok (.ifCond .eq 40, 3) := dk_153 0 40 (dk_at dksX49_correct_0 5 rfl rfl)
theorem dX49_correct_8 : decode cX49_correct 8 = .ok (.iload_n 2, 1) := dk_28 (dk_at dksX49_correct_0 8 rfl rfl)
theorem dX49_correct_9 : decode cX49_correct 9 = .ok (.lload_n 3, 1) := dk_33 (dk_at dksX49_correct_0 9 rfl rfl)
theorem dX49_correct_10 : decode cX49_correct 10 = .ok (.invokestatic 138, 3) := dk_184 0 138 (dk_at dksX49_correct_0 10 rfl rfl)
theorem dX49_correct_13 : decode cX49_correct 13 = .ok (.ifCond .eq 32, 3) := dk_153 0 32 (dk_at dksX49_correct_0 13 rfl rfl)
theorem dX49_correct_16 : decode cX49_correct 16 = .ok (.bipush 7, 2) := dk_16 7 (dk_at dksX49_correct_0 16 rfl rfl)
theorem dX49_correct_18 : decode cX49_correct 18 = .ok (.iload 5, 2) := dk_21 5 (dk_at dksX49_correct_0 18 rfl rfl)
theorem dX49_correct_20 : decode cX49_correct 20 = .ok (.i2l, 1) := dk_133 (dk_at dksX49_correct_0 20 rfl rfl)
theorem dX49_correct_21 : decode cX49_correct 21 = .ok (.invokestatic 138, 3) := dk_184 0 138 (dk_at dksX49_correct_0 21 rfl rfl)
theorem dX49_correct_24 : decode cX49_correct 24 = .ok (.ifCond .eq 21, 3) := dk_153 0 21 (dk_at dksX49_correct_1 0 rfl rfl)
theorem dX49_correct_27 : decode cX49_correct 27 = .ok (.aload_n 0, 1) := dk_42 (dk_at dksX49_correct_1 3 rfl rfl)
theorem dX49_correct_28 : decode cX49_correct 28 = .ok (.iload_n 1, 1) := dk_27 (dk_at dksX49_correct_1 4 rfl rfl)
theorem dX49_correct_29 : decode cX49_correct 29 = .ok (.invokevirtual 163, 3) := dk_182 0 163 (dk_at dksX49_correct_1 5 rfl rfl)
theorem dX49_correct_32 : decode cX49_correct 32 = .ok (.ifCond .ne 13, 3) := dk_154 0 13 (dk_at dksX49_correct_1 8 rfl rfl)
theorem dX49_correct_35 : decode cX49_correct 35 = .ok (.aload_n 0, 1) := dk_42 (dk_at dksX49_correct_1 11 rfl rfl)
theorem dX49_correct_36 : decode cX49_correct 36 = .ok (.getfield 98, 3) := dk_180 0 98 (dk_at dksX49_correct_1 12 rfl rfl)
theorem dX49_correct_39 : decode cX49_correct 39 = .ok (.sipush 200, 3) := dk_17 0 200 (dk_at dksX49_correct_1 15 rfl rfl)
theorem dX49_correct_42 : decode cX49_correct 42 = .ok (.if_icmp .ne 5, 3) := dk_160 0 5 (dk_at dksX49_correct_1 18 rfl rfl)
theorem dX49_correct_45 : decode cX49_correct 45 = .ok (.iconst (-1), 1) := dk_2 (dk_at dksX49_correct_1 21 rfl rfl)
theorem dX49_correct_46 : decode cX49_correct 46 = .ok (.ireturn, 1) := dk_172 (dk_at dksX49_correct_1 22 rfl rfl)
theorem dX49_correct_47 : decode cX49_correct 47 = .ok (.iload_n 2, 1) := dk_28 (dk_at dksX49_correct_1 23 rfl rfl)
theorem dX49_correct_48 : decode cX49_correct 48 = .ok (.iconst 3, 1) := dk_6 (dk_at dksX49_correct_2 0 rfl rfl)
theorem dX49_correct_49 : decode cX49_correct 49 = .ok (.if_icmp .ne 7, 3) := dk_160 0 7 (dk_at dksX49_correct_2 1 rfl rfl)
theorem dX49_correct_52 : decode cX49_correct 52 = .ok (.lload_n 3, 1) := dk_33 (dk_at dksX49_correct_2 4 rfl rfl)
theorem dX49_correct_53 : decode cX49_correct 53 = .ok (.goto 14, 3) := dk_167 0 14 (dk_at dksX49_correct_2 5 rfl rfl)
theorem dX49_correct_56 : decode cX49_correct 56 = .ok (.aload_n 0, 1) := dk_42 (dk_at dksX49_correct_2 8 rfl rfl)
theorem dX49_correct_57 : decode cX49_correct 57 = .ok (.getfield 25, 3) := dk_180 0 25 (dk_at dksX49_correct_2 9 rfl rfl)
theorem dX49_correct_60 : decode cX49_correct 60 = .ok (.bipush 9, 2) := dk_16 9 (dk_at dksX49_correct_2 12 rfl rfl)
theorem dX49_correct_62 : decode cX49_correct 62 = .ok (.iload_n 1, 1) := dk_27 (dk_at dksX49_correct_2 14 rfl rfl)
theorem dX49_correct_63 : decode cX49_correct 63 = .ok (.imul, 1) := dk_104 (dk_at dksX49_correct_2 15 rfl rfl)
theorem dX49_correct_64 : decode cX49_correct 64 = .ok (.iconst 3, 1) := dk_6 (dk_at dksX49_correct_2 16 rfl rfl)
theorem dX49_correct_65 : decode cX49_correct 65 = .ok (.iadd, 1) := dk_96 (dk_at dksX49_correct_2 17 rfl rfl)
theorem dX49_correct_66 : decode cX49_correct 66 = .ok (.laload, 1) := dk_47 (dk_at dksX49_correct_2 18 rfl rfl)
theorem dX49_correct_67 : decode cX49_correct 67 = .ok (.lstore 6, 2) := dk_55 6 (dk_at dksX49_correct_2 19 rfl rfl)
theorem dX49_correct_69 : decode cX49_correct 69 = .ok (.iload_n 2, 1) := dk_28 (dk_at dksX49_correct_2 21 rfl rfl)
theorem dX49_correct_70 : decode cX49_correct 70 = .ok (.iconst 4, 1) := dk_7 (dk_at dksX49_correct_2 22 rfl rfl)
theorem dX49_correct_71 : decode cX49_correct 71 = .ok (.if_icmp .ne 7, 3) := dk_160 0 7 (dk_at dksX49_correct_3 0 rfl rfl)
theorem dX49_correct_74 : decode cX49_correct 74 = .ok (.lload_n 3, 1) := dk_33 (dk_at dksX49_correct_3 3 rfl rfl)
theorem dX49_correct_75 : decode cX49_correct 75 = .ok (.goto 14, 3) := dk_167 0 14 (dk_at dksX49_correct_3 4 rfl rfl)
theorem dX49_correct_78 : decode cX49_correct 78 = .ok (.aload_n 0, 1) := dk_42 (dk_at dksX49_correct_3 7 rfl rfl)
theorem dX49_correct_79 : decode cX49_correct 79 = .ok (.getfield 25, 3) := dk_180 0 25 (dk_at dksX49_correct_3 8 rfl rfl)
theorem dX49_correct_82 : decode cX49_correct 82 = .ok (.bipush 9, 2) := dk_16 9 (dk_at dksX49_correct_3 11 rfl rfl)
theorem dX49_correct_84 : decode cX49_correct 84 = .ok (.iload_n 1, 1) := dk_27 (dk_at dksX49_correct_3 13 rfl rfl)
theorem dX49_correct_85 : decode cX49_correct 85 = .ok (.imul, 1) := dk_104 (dk_at dksX49_correct_3 14 rfl rfl)
theorem dX49_correct_86 : decode cX49_correct 86 = .ok (.iconst 4, 1) := dk_7 (dk_at dksX49_correct_3 15 rfl rfl)
theorem dX49_correct_87 : decode cX49_correct 87 = .ok (.iadd, 1) := dk_96 (dk_at dksX49_correct_3 16 rfl rfl)
theorem dX49_correct_88 : decode cX49_correct 88 = .ok (.laload, 1) := dk_47 (dk_at dksX49_correct_3 17 rfl rfl)
theorem dX49_correct_89 : decode cX49_correct 89 = .ok (.lstore 8, 2) := dk_55 8 (dk_at dksX49_correct_3 18 rfl rfl)
theorem dX49_correct_91 : decode cX49_correct 91 = .ok (.lload 6, 2) := dk_22 6 (dk_at dksX49_correct_3 20 rfl rfl)
theorem dX49_correct_93 : decode cX49_correct 93 = .ok (.lload 8, 2) := dk_22 8 (dk_at dksX49_correct_3 22 rfl rfl)
theorem dX49_correct_95 : decode cX49_correct 95 = .ok (.lcmp, 1) := dk_148 (dk_at dksX49_correct_4 0 rfl rfl)
theorem dX49_correct_96 : decode cX49_correct 96 = .ok (.ifCond .ge 5, 3) := dk_156 0 5 (dk_at dksX49_correct_4 1 rfl rfl)
theorem dX49_correct_99 : decode cX49_correct 99 = .ok (.iconst (-1), 1) := dk_2 (dk_at dksX49_correct_4 4 rfl rfl)
theorem dX49_correct_100 : decode cX49_correct 100 = .ok (.ireturn, 1) := dk_172 (dk_at dksX49_correct_4 5 rfl rfl)
theorem dX49_correct_101 : decode cX49_correct 101 = .ok (.aload_n 0, 1) := dk_42 (dk_at dksX49_correct_4 6 rfl rfl)
theorem dX49_correct_102 : decode cX49_correct 102 = .ok (.getfield 25, 3) := dk_180 0 25 (dk_at dksX49_correct_4 7 rfl rfl)
theorem dX49_correct_105 : decode cX49_correct 105 = .ok (.bipush 9, 2) := dk_16 9 (dk_at dksX49_correct_4 10 rfl rfl)
theorem dX49_correct_107 : decode cX49_correct 107 = .ok (.iload_n 1, 1) := dk_27 (dk_at dksX49_correct_4 12 rfl rfl)
theorem dX49_correct_108 : decode cX49_correct 108 = .ok (.imul, 1) := dk_104 (dk_at dksX49_correct_4 13 rfl rfl)
theorem dX49_correct_109 : decode cX49_correct 109 = .ok (.iload_n 2, 1) := dk_28 (dk_at dksX49_correct_4 14 rfl rfl)
theorem dX49_correct_110 : decode cX49_correct 110 = .ok (.iadd, 1) := dk_96 (dk_at dksX49_correct_4 15 rfl rfl)
theorem dX49_correct_111 : decode cX49_correct 111 = .ok (.lload_n 3, 1) := dk_33 (dk_at dksX49_correct_4 16 rfl rfl)
theorem dX49_correct_112 : decode cX49_correct 112 = .ok (.lastore, 1) := dk_80 (dk_at dksX49_correct_4 17 rfl rfl)
theorem dX49_correct_113 : decode cX49_correct 113 = .ok (.aload_n 0, 1) := dk_42 (dk_at dksX49_correct_4 18 rfl rfl)
theorem dX49_correct_114 : decode cX49_correct 114 = .ok (.iconst 2, 1) := dk_5 (dk_at dksX49_correct_4 19 rfl rfl)
theorem dX49_correct_115 : decode cX49_correct 115 = .ok (.iload_n 1, 1) := dk_27 (dk_at dksX49_correct_4 20 rfl rfl)
theorem dX49_correct_116 : decode cX49_correct 116 = .ok (.invokevirtual 152, 3) := dk_182 0 152 (dk_at dksX49_correct_4 21 rfl rfl)
theorem dX49_correct_119 : decode cX49_correct 119 = .ok (.istore 10, 2) := dk_54 10 (dk_at dksX49_correct_5 0 rfl rfl)
theorem dX49_correct_121 : decode cX49_correct 121 = .ok (.aload_n 0, 1) := dk_42 (dk_at dksX49_correct_5 2 rfl rfl)
theorem dX49_correct_122 : decode cX49_correct 122 = .ok (.iload 10, 2) := dk_21 10 (dk_at dksX49_correct_5 3 rfl rfl)
theorem dX49_correct_124 : decode cX49_correct 124 = .ok (.iload_n 2, 1) := dk_28 (dk_at dksX49_correct_5 5 rfl rfl)
theorem dX49_correct_125 : decode cX49_correct 125 = .ok (.i2l, 1) := dk_133 (dk_at dksX49_correct_5 6 rfl rfl)
theorem dX49_correct_126 : decode cX49_correct 126 = .ok (.iconst 4, 1) := dk_7 (dk_at dksX49_correct_5 7 rfl rfl)
theorem dX49_correct_127 : decode cX49_correct 127 = .ok (.invokevirtual 108, 3) := dk_182 0 108 (dk_at dksX49_correct_5 8 rfl rfl)
theorem dX49_correct_130 : decode cX49_correct 130 = .ok (.istore 10, 2) := dk_54 10 (dk_at dksX49_correct_5 11 rfl rfl)
theorem dX49_correct_132 : decode cX49_correct 132 = .ok (.aload_n 0, 1) := dk_42 (dk_at dksX49_correct_5 13 rfl rfl)
theorem dX49_correct_133 : decode cX49_correct 133 = .ok (.iload 10, 2) := dk_21 10 (dk_at dksX49_correct_5 14 rfl rfl)
theorem dX49_correct_135 : decode cX49_correct 135 = .ok (.lload_n 3, 1) := dk_33 (dk_at dksX49_correct_5 16 rfl rfl)
theorem dX49_correct_136 : decode cX49_correct 136 = .ok (.bipush 8, 2) := dk_16 8 (dk_at dksX49_correct_5 17 rfl rfl)
theorem dX49_correct_138 : decode cX49_correct 138 = .ok (.invokevirtual 108, 3) := dk_182 0 108 (dk_at dksX49_correct_5 19 rfl rfl)
theorem dX49_correct_141 : decode cX49_correct 141 = .ok (.istore 10, 2) := dk_54 10 (dk_at dksX49_correct_5 22 rfl rfl)
theorem dX49_correct_143 : decode cX49_correct 143 = .ok (.aload_n 0, 1) := dk_42 (dk_at dksX49_correct_6 0 rfl rfl)
theorem dX49_correct_144 : decode cX49_correct 144 = .ok (.iload 10, 2) := dk_21 10 (dk_at dksX49_correct_6 1 rfl rfl)
theorem dX49_correct_146 : decode cX49_correct 146 = .ok (.iload 5, 2) := dk_21 5 (dk_at dksX49_correct_6 3 rfl rfl)
theorem dX49_correct_148 : decode cX49_correct 148 = .ok (.i2l, 1) := dk_133 (dk_at dksX49_correct_6 5 rfl rfl)
theorem dX49_correct_149 : decode cX49_correct 149 = .ok (.iconst 4, 1) := dk_7 (dk_at dksX49_correct_6 6 rfl rfl)
theorem dX49_correct_150 : decode cX49_correct 150 = .ok (.invokevirtual 108, 3) := dk_182 0 108 (dk_at dksX49_correct_6 7 rfl rfl)
theorem dX49_correct_153 : decode cX49_correct 153 = .ok (.istore 10, 2) := dk_54 10 (dk_at dksX49_correct_6 10 rfl rfl)
theorem dX49_correct_155 : decode cX49_correct 155 = .ok (.aload_n 0, 1) := dk_42 (dk_at dksX49_correct_6 12 rfl rfl)
theorem dX49_correct_156 : decode cX49_correct 156 = .ok (.iload_n 1, 1) := dk_27 (dk_at dksX49_correct_6 13 rfl rfl)
theorem dX49_correct_157 : decode cX49_correct 157 = .ok (.invokevirtual 155, 3) := dk_182 0 155 (dk_at dksX49_correct_6 14 rfl rfl)
theorem dX49_correct_160 : decode cX49_correct 160 = .ok (.ireturn, 1) := dk_172 (dk_at dksX49_correct_6 17 rfl rfl)
abbrev cX49_voids : ByteArray := prog_65_method_22_code
def yX49_voids : MethodName := ⟨RX49, "voids", "(II)I"⟩
def dkwX49_voids_3 : List UInt8 := [182, 0, 155, 172]
abbrev dktX49_voids_3 : List UInt8 := dkwX49_voids_3 ++ []
def dkwX49_voids_2 : List UInt8 := [16, 8, 96, 28, 133, 80, 42, 42, 6, 27, 182, 0, 152, 28, 133, 7, 182, 0, 108, 62, 42, 27]
abbrev dktX49_voids_2 : List UInt8 := dkwX49_voids_2 ++ dktX49_voids_3
def dkwX49_voids_1 : List UInt8 := [154, 0, 13, 42, 180, 0, 98, 17, 0, 200, 160, 0, 5, 2, 172, 42, 180, 0, 25, 16, 9, 27, 104]
abbrev dktX49_voids_1 : List UInt8 := dkwX49_voids_1 ++ dktX49_voids_2
def dkwX49_voids_0 : List UInt8 := [42, 27, 182, 0, 159, 153, 0, 32, 28, 4, 161, 0, 27, 28, 16, 99, 163, 0, 21, 42, 27, 182, 0, 163]
abbrev dktX49_voids_0 : List UInt8 := dkwX49_voids_0 ++ dktX49_voids_1
theorem dksX49_voids_0 : cX49_voids.data.toList.drop 0 = dktX49_voids_0 := by decide +kernel
theorem dksX49_voids_1 : cX49_voids.data.toList.drop 24 = dktX49_voids_1 := dk_seg dksX49_voids_0 24 rfl rfl
theorem dksX49_voids_2 : cX49_voids.data.toList.drop 47 = dktX49_voids_2 := dk_seg dksX49_voids_1 23 rfl rfl
theorem dksX49_voids_3 : cX49_voids.data.toList.drop 69 = dktX49_voids_3 := dk_seg dksX49_voids_2 22 rfl rfl
theorem dX49_voids_0 : decode cX49_voids 0 = .ok (.aload_n 0, 1) := dk_42 (dk_at dksX49_voids_0 0 rfl rfl)
theorem dX49_voids_1 : decode cX49_voids 1 = .ok (.iload_n 1, 1) := dk_27 (dk_at dksX49_voids_0 1 rfl rfl)
theorem dX49_voids_2 : decode cX49_voids 2 = .ok (.invokevirtual 159, 3) := dk_182 0 159 (dk_at dksX49_voids_0 2 rfl rfl)
theorem dX49_voids_5 : decode cX49_voids 5 = .ok (.ifCond .eq 32, 3) := dk_153 0 32 (dk_at dksX49_voids_0 5 rfl rfl)
theorem dX49_voids_8 : decode cX49_voids 8 = .ok (.iload_n 2, 1) := dk_28 (dk_at dksX49_voids_0 8 rfl rfl)
theorem dX49_voids_9 : decode cX49_voids 9 = .ok (.iconst 1, 1) := dk_4 (dk_at dksX49_voids_0 9 rfl rfl)
theorem dX49_voids_10 : decode cX49_voids 10 = .ok (.if_icmp .lt 27, 3) := dk_161 0 27 (dk_at dksX49_voids_0 10 rfl rfl)
theorem dX49_voids_13 : decode cX49_voids 13 = .ok (.iload_n 2, 1) := dk_28 (dk_at dksX49_voids_0 13 rfl rfl)
theorem dX49_voids_14 : decode cX49_voids 14 = .ok (.bipush 99, 2) := dk_16 99 (dk_at dksX49_voids_0 14 rfl rfl)
theorem dX49_voids_16 : decode cX49_voids 16 = .ok (.if_icmp .gt 21, 3) := dk_163 0 21 (dk_at dksX49_voids_0 16 rfl rfl)
theorem dX49_voids_19 : decode cX49_voids 19 = .ok (.aload_n 0, 1) := dk_42 (dk_at dksX49_voids_0 19 rfl rfl)
theorem dX49_voids_20 : decode cX49_voids 20 = .ok (.iload_n 1, 1) := dk_27 (dk_at dksX49_voids_0 20 rfl rfl)
theorem dX49_voids_21 : decode cX49_voids 21 = .ok (.invokevirtual 163, 3) := dk_182 0 163 (dk_at dksX49_voids_0 21 rfl rfl)
theorem dX49_voids_24 : decode cX49_voids 24 = .ok (.ifCond .ne 13, 3) := dk_154 0 13 (dk_at dksX49_voids_1 0 rfl rfl)
theorem dX49_voids_27 : decode cX49_voids 27 = .ok (.aload_n 0, 1) := dk_42 (dk_at dksX49_voids_1 3 rfl rfl)
theorem dX49_voids_28 : decode cX49_voids 28 = .ok (.getfield 98, 3) := dk_180 0 98 (dk_at dksX49_voids_1 4 rfl rfl)
theorem dX49_voids_31 : decode cX49_voids 31 = .ok (.sipush 200, 3) := dk_17 0 200 (dk_at dksX49_voids_1 7 rfl rfl)
theorem dX49_voids_34 : decode cX49_voids 34 = .ok (.if_icmp .ne 5, 3) := dk_160 0 5 (dk_at dksX49_voids_1 10 rfl rfl)
theorem dX49_voids_37 : decode cX49_voids 37 = .ok (.iconst (-1), 1) := dk_2 (dk_at dksX49_voids_1 13 rfl rfl)
theorem dX49_voids_38 : decode cX49_voids 38 = .ok (.ireturn, 1) := dk_172 (dk_at dksX49_voids_1 14 rfl rfl)
theorem dX49_voids_39 : decode cX49_voids 39 = .ok (.aload_n 0, 1) := dk_42 (dk_at dksX49_voids_1 15 rfl rfl)
theorem dX49_voids_40 : decode cX49_voids 40 = .ok (.getfield 25, 3) := dk_180 0 25 (dk_at dksX49_voids_1 16 rfl rfl)
theorem dX49_voids_43 : decode cX49_voids 43 = .ok (.bipush 9, 2) := dk_16 9 (dk_at dksX49_voids_1 19 rfl rfl)
theorem dX49_voids_45 : decode cX49_voids 45 = .ok (.iload_n 1, 1) := dk_27 (dk_at dksX49_voids_1 21 rfl rfl)
theorem dX49_voids_46 : decode cX49_voids 46 = .ok (.imul, 1) := dk_104 (dk_at dksX49_voids_1 22 rfl rfl)
theorem dX49_voids_47 : decode cX49_voids 47 = .ok (.bipush 8, 2) := dk_16 8 (dk_at dksX49_voids_2 0 rfl rfl)
theorem dX49_voids_49 : decode cX49_voids 49 = .ok (.iadd, 1) := dk_96 (dk_at dksX49_voids_2 2 rfl rfl)
theorem dX49_voids_50 : decode cX49_voids 50 = .ok (.iload_n 2, 1) := dk_28 (dk_at dksX49_voids_2 3 rfl rfl)
theorem dX49_voids_51 : decode cX49_voids 51 = .ok (.i2l, 1) := dk_133 (dk_at dksX49_voids_2 4 rfl rfl)
theorem dX49_voids_52 : decode cX49_voids 52 = .ok (.lastore, 1) := dk_80 (dk_at dksX49_voids_2 5 rfl rfl)
theorem dX49_voids_53 : decode cX49_voids 53 = .ok (.aload_n 0, 1) := dk_42 (dk_at dksX49_voids_2 6 rfl rfl)
theorem dX49_voids_54 : decode cX49_voids 54 = .ok (.aload_n 0, 1) := dk_42 (dk_at dksX49_voids_2 7 rfl rfl)
theorem dX49_voids_55 : decode cX49_voids 55 = .ok (.iconst 3, 1) := dk_6 (dk_at dksX49_voids_2 8 rfl rfl)
theorem dX49_voids_56 : decode cX49_voids 56 = .ok (.iload_n 1, 1) := dk_27 (dk_at dksX49_voids_2 9 rfl rfl)
theorem dX49_voids_57 : decode cX49_voids 57 = .ok (.invokevirtual 152, 3) := dk_182 0 152 (dk_at dksX49_voids_2 10 rfl rfl)
theorem dX49_voids_60 : decode cX49_voids 60 = .ok (.iload_n 2, 1) := dk_28 (dk_at dksX49_voids_2 13 rfl rfl)
theorem dX49_voids_61 : decode cX49_voids 61 = .ok (.i2l, 1) := dk_133 (dk_at dksX49_voids_2 14 rfl rfl)
theorem dX49_voids_62 : decode cX49_voids 62 = .ok (.iconst 4, 1) := dk_7 (dk_at dksX49_voids_2 15 rfl rfl)
theorem dX49_voids_63 : decode cX49_voids 63 = .ok (.invokevirtual 108, 3) := dk_182 0 108 (dk_at dksX49_voids_2 16 rfl rfl)
theorem dX49_voids_66 : decode cX49_voids 66 = .ok (.istore_n 3, 1) := dk_62 (dk_at dksX49_voids_2 19 rfl rfl)
theorem dX49_voids_67 : decode cX49_voids 67 = .ok (.aload_n 0, 1) := dk_42 (dk_at dksX49_voids_2 20 rfl rfl)
theorem dX49_voids_68 : decode cX49_voids 68 = .ok (.iload_n 1, 1) := dk_27 (dk_at dksX49_voids_2 21 rfl rfl)
theorem dX49_voids_69 : decode cX49_voids 69 = .ok (.invokevirtual 155, 3) := dk_182 0 155 (dk_at dksX49_voids_3 0 rfl rfl)
theorem dX49_voids_72 : decode cX49_voids 72 = .ok (.ireturn, 1) := dk_172 (dk_at dksX49_voids_3 3 rfl rfl)
abbrev cX49_number : ByteArray := prog_65_method_24_code
def yX49_number : MethodName := ⟨RX49, "number", "(I)I"⟩
def dkwX49_number_0 : List UInt8 := [42, 27, 182, 0, 159, 153, 0, 16, 42, 180, 0, 25, 16, 9, 27, 104, 47, 136, 167, 0, 4, 2, 172]
abbrev dktX49_number_0 : List UInt8 := dkwX49_number_0 ++ []
theorem dksX49_number_0 : cX49_number.data.toList.drop 0 = dktX49_number_0 := by decide +kernel
theorem dX49_number_0 : decode cX49_number 0 = .ok (.aload_n 0, 1) := dk_42 (dk_at dksX49_number_0 0 rfl rfl)
theorem dX49_number_1 : decode cX49_number 1 = .ok (.iload_n 1, 1) := dk_27 (dk_at dksX49_number_0 1 rfl rfl)
theorem dX49_number_2 : decode cX49_number 2 = .ok (.invokevirtual 159, 3) := dk_182 0 159 (dk_at dksX49_number_0 2 rfl rfl)
theorem dX49_number_5 : decode cX49_number 5 = .ok (.ifCond .eq 16, 3) := dk_153 0 16 (dk_at dksX49_number_0 5 rfl rfl)
theorem dX49_number_8 : decode cX49_number 8 = .ok (.aload_n 0, 1) := dk_42 (dk_at dksX49_number_0 8 rfl rfl)
theorem dX49_number_9 : decode cX49_number 9 = .ok (.getfield 25, 3) := dk_180 0 25 (dk_at dksX49_number_0 9 rfl rfl)
theorem dX49_number_12 : decode cX49_number 12 = .ok (.bipush 9, 2) := dk_16 9 (dk_at dksX49_number_0 12 rfl rfl)
theorem dX49_number_14 : decode cX49_number 14 = .ok (.iload_n 1, 1) := dk_27 (dk_at dksX49_number_0 14 rfl rfl)
theorem dX49_number_15 : decode cX49_number 15 = .ok (.imul, 1) := dk_104 (dk_at dksX49_number_0 15 rfl rfl)
theorem dX49_number_16 : decode cX49_number 16 = .ok (.laload, 1) := dk_47 (dk_at dksX49_number_0 16 rfl rfl)
theorem dX49_number_17 : decode cX49_number 17 = .ok (.l2i, 1) := dk_136 (dk_at dksX49_number_0 17 rfl rfl)
theorem dX49_number_18 : decode cX49_number 18 = .ok (.goto 4, 3) := dk_167 0 4 (dk_at dksX49_number_0 18 rfl rfl)
theorem dX49_number_21 : decode cX49_number 21 = .ok (.iconst (-1), 1) := dk_2 (dk_at dksX49_number_0 21 rfl rfl)
theorem dX49_number_22 : decode cX49_number 22 = .ok (.ireturn, 1) := dk_172 (dk_at dksX49_number_0 22 rfl rfl)
abbrev cX49_gap : ByteArray := prog_65_method_25_code
def yX49_gap : MethodName := ⟨RX49, "gap", "(I)I"⟩
def dkwX49_gap_1 : List UInt8 := [167, 0, 4, 2, 172]
abbrev dktX49_gap_1 : List UInt8 := dkwX49_gap_1 ++ []
def dkwX49_gap_0 : List UInt8 := [42, 3, 181, 0, 67, 27, 155, 0, 20, 27, 42, 180, 0, 149, 162, 0, 12, 42, 180, 0, 32, 27, 46]
abbrev dktX49_gap_0 : List UInt8 := dkwX49_gap_0 ++ dktX49_gap_1
theorem dksX49_gap_0 : cX49_gap.data.toList.drop 0 = dktX49_gap_0 := by decide +kernel
theorem dksX49_gap_1 : cX49_gap.data.toList.drop 23 = dktX49_gap_1 := dk_seg dksX49_gap_0 23 rfl rfl
theorem dX49_gap_0 : decode cX49_gap 0 = .ok (.aload_n 0, 1) := dk_42 (dk_at dksX49_gap_0 0 rfl rfl)
theorem dX49_gap_1 : decode cX49_gap 1 = .ok (.iconst 0, 1) := dk_3 (dk_at dksX49_gap_0 1 rfl rfl)
theorem dX49_gap_2 : decode cX49_gap 2 = .ok (.putfield 67, 3) := dk_181 0 67 (dk_at dksX49_gap_0 2 rfl rfl)
theorem dX49_gap_5 : decode cX49_gap 5 = .ok (.iload_n 1, 1) := dk_27 (dk_at dksX49_gap_0 5 rfl rfl)
theorem dX49_gap_6 : decode cX49_gap 6 = .ok (.ifCond .lt 20, 3) := dk_155 0 20 (dk_at dksX49_gap_0 6 rfl rfl)
theorem dX49_gap_9 : decode cX49_gap 9 = .ok (.iload_n 1, 1) := dk_27 (dk_at dksX49_gap_0 9 rfl rfl)
theorem dX49_gap_10 : decode cX49_gap 10 = .ok (.aload_n 0, 1) := dk_42 (dk_at dksX49_gap_0 10 rfl rfl)
theorem dX49_gap_11 : decode cX49_gap 11 = .ok (.getfield 149, 3) := dk_180 0 149 (dk_at dksX49_gap_0 11 rfl rfl)
theorem dX49_gap_14 : decode cX49_gap 14 = .ok (.if_icmp .ge 12, 3) := dk_162 0 12 (dk_at dksX49_gap_0 14 rfl rfl)
theorem dX49_gap_17 : decode cX49_gap 17 = .ok (.aload_n 0, 1) := dk_42 (dk_at dksX49_gap_0 17 rfl rfl)
theorem dX49_gap_18 : decode cX49_gap 18 = .ok (.getfield 32, 3) := dk_180 0 32 (dk_at dksX49_gap_0 18 rfl rfl)
theorem dX49_gap_21 : decode cX49_gap 21 = .ok (.iload_n 1, 1) := dk_27 (dk_at dksX49_gap_0 21 rfl rfl)
theorem dX49_gap_22 : decode cX49_gap 22 = .ok (.iaload, 1) := dk_46 (dk_at dksX49_gap_0 22 rfl rfl)
theorem dX49_gap_23 : decode cX49_gap 23 = .ok (.goto 4, 3) := dk_167 0 4 (dk_at dksX49_gap_1 0 rfl rfl)
theorem dX49_gap_26 : decode cX49_gap 26 = .ok (.iconst (-1), 1) := dk_2 (dk_at dksX49_gap_1 3 rfl rfl)
theorem dX49_gap_27 : decode cX49_gap 27 = .ok (.ireturn, 1) := dk_172 (dk_at dksX49_gap_1 4 rfl rfl)
abbrev cX49_rows : ByteArray := prog_65_method_26_code
def yX49_rows : MethodName := ⟨RX49, "rows", "()I"⟩
def dkwX49_rows_0 : List UInt8 := [42, 3, 181, 0, 67, 42, 180, 0, 98, 172]
abbrev dktX49_rows_0 : List UInt8 := dkwX49_rows_0 ++ []
theorem dksX49_rows_0 : cX49_rows.data.toList.drop 0 = dktX49_rows_0 := by decide +kernel
theorem dX49_rows_0 : decode cX49_rows 0 = .ok (.aload_n 0, 1) := dk_42 (dk_at dksX49_rows_0 0 rfl rfl)
theorem dX49_rows_1 : decode cX49_rows 1 = .ok (.iconst 0, 1) := dk_3 (dk_at dksX49_rows_0 1 rfl rfl)
theorem dX49_rows_2 : decode cX49_rows 2 = .ok (.putfield 67, 3) := dk_181 0 67 (dk_at dksX49_rows_0 2 rfl rfl)
theorem dX49_rows_5 : decode cX49_rows 5 = .ok (.aload_n 0, 1) := dk_42 (dk_at dksX49_rows_0 5 rfl rfl)
theorem dX49_rows_6 : decode cX49_rows 6 = .ok (.getfield 98, 3) := dk_180 0 98 (dk_at dksX49_rows_0 6 rfl rfl)
theorem dX49_rows_9 : decode cX49_rows 9 = .ok (.ireturn, 1) := dk_172 (dk_at dksX49_rows_0 9 rfl rfl)
abbrev cX49_made : ByteArray := prog_65_method_27_code
def yX49_made : MethodName := ⟨RX49, "made", "()I"⟩
def dkwX49_made_0 : List UInt8 := [42, 3, 181, 0, 67, 42, 180, 0, 146, 172]
abbrev dktX49_made_0 : List UInt8 := dkwX49_made_0 ++ []
theorem dksX49_made_0 : cX49_made.data.toList.drop 0 = dktX49_made_0 := by decide +kernel
theorem dX49_made_0 : decode cX49_made 0 = .ok (.aload_n 0, 1) := dk_42 (dk_at dksX49_made_0 0 rfl rfl)
theorem dX49_made_1 : decode cX49_made 1 = .ok (.iconst 0, 1) := dk_3 (dk_at dksX49_made_0 1 rfl rfl)
theorem dX49_made_2 : decode cX49_made 2 = .ok (.putfield 67, 3) := dk_181 0 67 (dk_at dksX49_made_0 2 rfl rfl)
theorem dX49_made_5 : decode cX49_made 5 = .ok (.aload_n 0, 1) := dk_42 (dk_at dksX49_made_0 5 rfl rfl)
theorem dX49_made_6 : decode cX49_made 6 = .ok (.getfield 146, 3) := dk_180 0 146 (dk_at dksX49_made_0 6 rfl rfl)
theorem dX49_made_9 : decode cX49_made 9 = .ok (.ireturn, 1) := dk_172 (dk_at dksX49_made_0 9 rfl rfl)
abbrev cX49_split : ByteArray := prog_65_method_28_code
def yX49_split : MethodName := ⟨RX49, "split", "(IIJ)Z"⟩
def dkwX49_split_1 : List UInt8 := [184, 0, 119, 154, 0, 5, 3, 172, 42, 180, 0, 29, 16, 8, 27, 104, 28, 96, 33, 136, 79, 4, 172]
abbrev dktX49_split_1 : List UInt8 := dkwX49_split_1 ++ []
def dkwX49_split_0 : List UInt8 := [42, 27, 182, 0, 159, 153, 0, 24, 28, 133, 20, 0, 166, 184, 0, 119, 153, 0, 13, 33, 20, 0, 168]
abbrev dktX49_split_0 : List UInt8 := dkwX49_split_0 ++ dktX49_split_1
theorem dksX49_split_0 : cX49_split.data.toList.drop 0 = dktX49_split_0 := by decide +kernel
theorem dksX49_split_1 : cX49_split.data.toList.drop 23 = dktX49_split_1 := dk_seg dksX49_split_0 23 rfl rfl
theorem dX49_split_0 : decode cX49_split 0 = .ok (.aload_n 0, 1) := dk_42 (dk_at dksX49_split_0 0 rfl rfl)
theorem dX49_split_1 : decode cX49_split 1 = .ok (.iload_n 1, 1) := dk_27 (dk_at dksX49_split_0 1 rfl rfl)
theorem dX49_split_2 : decode cX49_split 2 = .ok (.invokevirtual 159, 3) := dk_182 0 159 (dk_at dksX49_split_0 2 rfl rfl)
theorem dX49_split_5 : decode cX49_split 5 = .ok (.ifCond .eq 24, 3) := dk_153 0 24 (dk_at dksX49_split_0 5 rfl rfl)
theorem dX49_split_8 : decode cX49_split 8 = .ok (.iload_n 2, 1) := dk_28 (dk_at dksX49_split_0 8 rfl rfl)
theorem dX49_split_9 : decode cX49_split 9 = .ok (.i2l, 1) := dk_133 (dk_at dksX49_split_0 9 rfl rfl)
theorem dX49_split_10 : decode cX49_split 10 = .ok (.ldc2_w 166, 3) := dk_20 0 166 (dk_at dksX49_split_0 10 rfl rfl)
theorem dX49_split_13 : decode cX49_split 13 = .ok (.invokestatic 119, 3) := dk_184 0 119 (dk_at dksX49_split_0 13 rfl rfl)
theorem dX49_split_16 : decode cX49_split 16 = .ok (.ifCond .eq 13, 3) := dk_153 0 13 (dk_at dksX49_split_0 16 rfl rfl)
theorem dX49_split_19 : decode cX49_split 19 = .ok (.lload_n 3, 1) := dk_33 (dk_at dksX49_split_0 19 rfl rfl)
theorem dX49_split_20 : decode cX49_split 20 = .ok (.ldc2_w 168, 3) := dk_20 0 168 (dk_at dksX49_split_0 20 rfl rfl)
theorem dX49_split_23 : decode cX49_split 23 = .ok (.invokestatic 119, 3) := dk_184 0 119 (dk_at dksX49_split_1 0 rfl rfl)
theorem dX49_split_26 : decode cX49_split 26 = .ok (.ifCond .ne 5, 3) := dk_154 0 5 (dk_at dksX49_split_1 3 rfl rfl)
theorem dX49_split_29 : decode cX49_split 29 = .ok (.iconst 0, 1) := dk_3 (dk_at dksX49_split_1 6 rfl rfl)
theorem dX49_split_30 : decode cX49_split 30 = .ok (.ireturn, 1) := dk_172 (dk_at dksX49_split_1 7 rfl rfl)
theorem dX49_split_31 : decode cX49_split 31 = .ok (.aload_n 0, 1) := dk_42 (dk_at dksX49_split_1 8 rfl rfl)
theorem dX49_split_32 : decode cX49_split 32 = .ok (.getfield 29, 3) := dk_180 0 29 (dk_at dksX49_split_1 9 rfl rfl)
theorem dX49_split_35 : decode cX49_split 35 = .ok (.bipush 8, 2) := dk_16 8 (dk_at dksX49_split_1 12 rfl rfl)
theorem dX49_split_37 : decode cX49_split 37 = .ok (.iload_n 1, 1) := dk_27 (dk_at dksX49_split_1 14 rfl rfl)
theorem dX49_split_38 : decode cX49_split 38 = .ok (.imul, 1) := dk_104 (dk_at dksX49_split_1 15 rfl rfl)
theorem dX49_split_39 : decode cX49_split 39 = .ok (.iload_n 2, 1) := dk_28 (dk_at dksX49_split_1 16 rfl rfl)
theorem dX49_split_40 : decode cX49_split 40 = .ok (.iadd, 1) := dk_96 (dk_at dksX49_split_1 17 rfl rfl)
theorem dX49_split_41 : decode cX49_split 41 = .ok (.lload_n 3, 1) := dk_33 (dk_at dksX49_split_1 18 rfl rfl)
theorem dX49_split_42 : decode cX49_split 42 = .ok (.l2i, 1) := dk_136 (dk_at dksX49_split_1 19 rfl rfl)
theorem dX49_split_43 : decode cX49_split 43 = .ok (.iastore, 1) := dk_79 (dk_at dksX49_split_1 20 rfl rfl)
theorem dX49_split_44 : decode cX49_split 44 = .ok (.iconst 1, 1) := dk_4 (dk_at dksX49_split_1 21 rfl rfl)
theorem dX49_split_45 : decode cX49_split 45 = .ok (.ireturn, 1) := dk_172 (dk_at dksX49_split_1 22 rfl rfl)
abbrev cX49_print : ByteArray := prog_65_method_32_code
def yX49_print : MethodName := ⟨RX49, "print", "(II)I"⟩
def dkwX49_print_5 : List UInt8 := [180, 0, 60, 28, 51, 167, 0, 4, 2, 172]
abbrev dktX49_print_5 : List UInt8 := dkwX49_print_5 ++ []
def dkwX49_print_4 : List UInt8 := [42, 27, 16, 8, 182, 0, 170, 182, 0, 183, 28, 155, 0, 20, 28, 42, 180, 0, 173, 162, 0, 12, 42]
abbrev dktX49_print_4 : List UInt8 := dkwX49_print_4 ++ dktX49_print_5
def dkwX49_print_3 : List UInt8 := [16, 79, 182, 0, 180, 42, 16, 73, 182, 0, 180, 42, 16, 68, 182, 0, 180, 42, 16, 32, 182, 0, 180, 42]
abbrev dktX49_print_3 : List UInt8 := dkwX49_print_3 ++ dktX49_print_4
def dkwX49_print_2 : List UInt8 := [167, 255, 227, 42, 27, 182, 0, 163, 153, 0, 50, 42, 16, 32, 182, 0, 180, 42, 16, 86, 182, 0, 180, 42]
abbrev dktX49_print_2 : List UInt8 := dkwX49_print_2 ++ dktX49_print_3
def dkwX49_print_1 : List UInt8 := [158, 0, 9, 42, 16, 32, 182, 0, 180, 42, 42, 27, 29, 182, 0, 170, 182, 0, 183, 132, 3, 1]
abbrev dktX49_print_1 : List UInt8 := dkwX49_print_1 ++ dktX49_print_2
def dkwX49_print_0 : List UInt8 := [42, 27, 182, 0, 159, 154, 0, 5, 2, 172, 42, 3, 181, 0, 173, 3, 62, 29, 16, 8, 162, 0, 29, 29]
abbrev dktX49_print_0 : List UInt8 := dkwX49_print_0 ++ dktX49_print_1
theorem dksX49_print_0 : cX49_print.data.toList.drop 0 = dktX49_print_0 := by decide +kernel
theorem dksX49_print_1 : cX49_print.data.toList.drop 24 = dktX49_print_1 := dk_seg dksX49_print_0 24 rfl rfl
theorem dksX49_print_2 : cX49_print.data.toList.drop 46 = dktX49_print_2 := dk_seg dksX49_print_1 22 rfl rfl
theorem dksX49_print_3 : cX49_print.data.toList.drop 70 = dktX49_print_3 := dk_seg dksX49_print_2 24 rfl rfl
theorem dksX49_print_4 : cX49_print.data.toList.drop 94 = dktX49_print_4 := dk_seg dksX49_print_3 24 rfl rfl
theorem dksX49_print_5 : cX49_print.data.toList.drop 117 = dktX49_print_5 := dk_seg dksX49_print_4 23 rfl rfl
theorem dX49_print_0 : decode cX49_print 0 = .ok (.aload_n 0, 1) := dk_42 (dk_at dksX49_print_0 0 rfl rfl)
theorem dX49_print_1 : decode cX49_print 1 = .ok (.iload_n 1, 1) := dk_27 (dk_at dksX49_print_0 1 rfl rfl)
theorem dX49_print_2 : decode cX49_print 2 = .ok (.invokevirtual 159, 3) := dk_182 0 159 (dk_at dksX49_print_0 2 rfl rfl)
theorem dX49_print_5 : decode cX49_print 5 = .ok (.ifCond .ne 5, 3) := dk_154 0 5 (dk_at dksX49_print_0 5 rfl rfl)
theorem dX49_print_8 : decode cX49_print 8 = .ok (.iconst (-1), 1) := dk_2 (dk_at dksX49_print_0 8 rfl rfl)
theorem dX49_print_9 : decode cX49_print 9 = .ok (.ireturn, 1) := dk_172 (dk_at dksX49_print_0 9 rfl rfl)
theorem dX49_print_10 : decode cX49_print 10 = .ok (.aload_n 0, 1) := dk_42 (dk_at dksX49_print_0 10 rfl rfl)
theorem dX49_print_11 : decode cX49_print 11 = .ok (.iconst 0, 1) := dk_3 (dk_at dksX49_print_0 11 rfl rfl)
theorem dX49_print_12 : decode cX49_print 12 = .ok (.putfield 173, 3) := dk_181 0 173 (dk_at dksX49_print_0 12 rfl rfl)
theorem dX49_print_15 : decode cX49_print 15 = .ok (.iconst 0, 1) := dk_3 (dk_at dksX49_print_0 15 rfl rfl)
theorem dX49_print_16 : decode cX49_print 16 = .ok (.istore_n 3, 1) := dk_62 (dk_at dksX49_print_0 16 rfl rfl)
theorem dX49_print_17 : decode cX49_print 17 = .ok (.iload_n 3, 1) := dk_29 (dk_at dksX49_print_0 17 rfl rfl)
theorem dX49_print_18 : decode cX49_print 18 = .ok (.bipush 8, 2) := dk_16 8 (dk_at dksX49_print_0 18 rfl rfl)
theorem dX49_print_20 : decode cX49_print 20 = .ok (.if_icmp .ge 29, 3) := dk_162 0 29 (dk_at dksX49_print_0 20 rfl rfl)
theorem dX49_print_23 : decode cX49_print 23 = .ok (.iload_n 3, 1) := dk_29 (dk_at dksX49_print_0 23 rfl rfl)
theorem dX49_print_24 : decode cX49_print 24 = .ok (.ifCond .le 9, 3) := dk_158 0 9 (dk_at dksX49_print_1 0 rfl rfl)
theorem dX49_print_27 : decode cX49_print 27 = .ok (.aload_n 0, 1) := dk_42 (dk_at dksX49_print_1 3 rfl rfl)
theorem dX49_print_28 : decode cX49_print 28 = .ok (.bipush 32, 2) := dk_16 32 (dk_at dksX49_print_1 4 rfl rfl)
theorem dX49_print_30 : decode cX49_print 30 = .ok (.invokevirtual 180, 3) := dk_182 0 180 (dk_at dksX49_print_1 6 rfl rfl)
theorem dX49_print_33 : decode cX49_print 33 = .ok (.aload_n 0, 1) := dk_42 (dk_at dksX49_print_1 9 rfl rfl)
theorem dX49_print_34 : decode cX49_print 34 = .ok (.aload_n 0, 1) := dk_42 (dk_at dksX49_print_1 10 rfl rfl)
theorem dX49_print_35 : decode cX49_print 35 = .ok (.iload_n 1, 1) := dk_27 (dk_at dksX49_print_1 11 rfl rfl)
theorem dX49_print_36 : decode cX49_print 36 = .ok (.iload_n 3, 1) := dk_29 (dk_at dksX49_print_1 12 rfl rfl)
theorem dX49_print_37 : decode cX49_print 37 = .ok (.invokevirtual 170, 3) := dk_182 0 170 (dk_at dksX49_print_1 13 rfl rfl)
theorem dX49_print_40 : decode cX49_print 40 = .ok (.invokevirtual 183, 3) := dk_182 0 183 (dk_at dksX49_print_1 16 rfl rfl)
theorem dX49_print_43 : decode cX49_print 43 = .ok (.iinc 3 1, 3) := dk_132 3 1 (dk_at dksX49_print_1 19 rfl rfl)
theorem dX49_print_46 : decode cX49_print 46 = .ok (.goto (-29), 3) := dk_167 255 227 (dk_at dksX49_print_2 0 rfl rfl)
theorem dX49_print_49 : decode cX49_print 49 = .ok (.aload_n 0, 1) := dk_42 (dk_at dksX49_print_2 3 rfl rfl)
theorem dX49_print_50 : decode cX49_print 50 = .ok (.iload_n 1, 1) := dk_27 (dk_at dksX49_print_2 4 rfl rfl)
theorem dX49_print_51 : decode cX49_print 51 = .ok (.invokevirtual 163, 3) := dk_182 0 163 (dk_at dksX49_print_2 5 rfl rfl)
theorem dX49_print_54 : decode cX49_print 54 = .ok (.ifCond .eq 50, 3) := dk_153 0 50 (dk_at dksX49_print_2 8 rfl rfl)
theorem dX49_print_57 : decode cX49_print 57 = .ok (.aload_n 0, 1) := dk_42 (dk_at dksX49_print_2 11 rfl rfl)
theorem dX49_print_58 : decode cX49_print 58 = .ok (.bipush 32, 2) := dk_16 32 (dk_at dksX49_print_2 12 rfl rfl)
theorem dX49_print_60 : decode cX49_print 60 = .ok (.invokevirtual 180, 3) := dk_182 0 180 (dk_at dksX49_print_2 14 rfl rfl)
theorem dX49_print_63 : decode cX49_print 63 = .ok (.aload_n 0, 1) := dk_42 (dk_at dksX49_print_2 17 rfl rfl)
theorem dX49_print_64 : decode cX49_print 64 = .ok (.bipush 86, 2) := dk_16 86 (dk_at dksX49_print_2 18 rfl rfl)
theorem dX49_print_66 : decode cX49_print 66 = .ok (.invokevirtual 180, 3) := dk_182 0 180 (dk_at dksX49_print_2 20 rfl rfl)
theorem dX49_print_69 : decode cX49_print 69 = .ok (.aload_n 0, 1) := dk_42 (dk_at dksX49_print_2 23 rfl rfl)
theorem dX49_print_70 : decode cX49_print 70 = .ok (.bipush 79, 2) := dk_16 79 (dk_at dksX49_print_3 0 rfl rfl)
theorem dX49_print_72 : decode cX49_print 72 = .ok (.invokevirtual 180, 3) := dk_182 0 180 (dk_at dksX49_print_3 2 rfl rfl)
theorem dX49_print_75 : decode cX49_print 75 = .ok (.aload_n 0, 1) := dk_42 (dk_at dksX49_print_3 5 rfl rfl)
theorem dX49_print_76 : decode cX49_print 76 = .ok (.bipush 73, 2) := dk_16 73 (dk_at dksX49_print_3 6 rfl rfl)
theorem dX49_print_78 : decode cX49_print 78 = .ok (.invokevirtual 180, 3) := dk_182 0 180 (dk_at dksX49_print_3 8 rfl rfl)
theorem dX49_print_81 : decode cX49_print 81 = .ok (.aload_n 0, 1) := dk_42 (dk_at dksX49_print_3 11 rfl rfl)
theorem dX49_print_82 : decode cX49_print 82 = .ok (.bipush 68, 2) := dk_16 68 (dk_at dksX49_print_3 12 rfl rfl)
theorem dX49_print_84 : decode cX49_print 84 = .ok (.invokevirtual 180, 3) := dk_182 0 180 (dk_at dksX49_print_3 14 rfl rfl)
theorem dX49_print_87 : decode cX49_print 87 = .ok (.aload_n 0, 1) := dk_42 (dk_at dksX49_print_3 17 rfl rfl)
theorem dX49_print_88 : decode cX49_print 88 = .ok (.bipush 32, 2) := dk_16 32 (dk_at dksX49_print_3 18 rfl rfl)
theorem dX49_print_90 : decode cX49_print 90 = .ok (.invokevirtual 180, 3) := dk_182 0 180 (dk_at dksX49_print_3 20 rfl rfl)
theorem dX49_print_93 : decode cX49_print 93 = .ok (.aload_n 0, 1) := dk_42 (dk_at dksX49_print_3 23 rfl rfl)
theorem dX49_print_94 : decode cX49_print 94 = .ok (.aload_n 0, 1) := dk_42 (dk_at dksX49_print_4 0 rfl rfl)
theorem dX49_print_95 : decode cX49_print 95 = .ok (.iload_n 1, 1) := dk_27 (dk_at dksX49_print_4 1 rfl rfl)
theorem dX49_print_96 : decode cX49_print 96 = .ok (.bipush 8, 2) := dk_16 8 (dk_at dksX49_print_4 2 rfl rfl)
theorem dX49_print_98 : decode cX49_print 98 = .ok (.invokevirtual 170, 3) := dk_182 0 170 (dk_at dksX49_print_4 4 rfl rfl)
theorem dX49_print_101 : decode cX49_print 101 = .ok (.invokevirtual 183, 3) := dk_182 0 183 (dk_at dksX49_print_4 7 rfl rfl)
theorem dX49_print_104 : decode cX49_print 104 = .ok (.iload_n 2, 1) := dk_28 (dk_at dksX49_print_4 10 rfl rfl)
theorem dX49_print_105 : decode cX49_print 105 = .ok (.ifCond .lt 20, 3) := dk_155 0 20 (dk_at dksX49_print_4 11 rfl rfl)
theorem dX49_print_108 : decode cX49_print 108 = .ok (.iload_n 2, 1) := dk_28 (dk_at dksX49_print_4 14 rfl rfl)
theorem dX49_print_109 : decode cX49_print 109 = .ok (.aload_n 0, 1) := dk_42 (dk_at dksX49_print_4 15 rfl rfl)
theorem dX49_print_110 : decode cX49_print 110 = .ok (.getfield 173, 3) := dk_180 0 173 (dk_at dksX49_print_4 16 rfl rfl)
theorem dX49_print_113 : decode cX49_print 113 = .ok (.if_icmp .ge 12, 3) := dk_162 0 12 (dk_at dksX49_print_4 19 rfl rfl)
theorem dX49_print_116 : decode cX49_print 116 = .ok (.aload_n 0, 1) := dk_42 (dk_at dksX49_print_4 22 rfl rfl)
theorem dX49_print_117 : decode cX49_print 117 = .ok (.getfield 60, 3) := dk_180 0 60 (dk_at dksX49_print_5 0 rfl rfl)
theorem dX49_print_120 : decode cX49_print 120 = .ok (.iload_n 2, 1) := dk_28 (dk_at dksX49_print_5 3 rfl rfl)
theorem dX49_print_121 : decode cX49_print 121 = .ok (.baload, 1) := dk_51 (dk_at dksX49_print_5 4 rfl rfl)
theorem dX49_print_122 : decode cX49_print 122 = .ok (.goto 4, 3) := dk_167 0 4 (dk_at dksX49_print_5 5 rfl rfl)
theorem dX49_print_125 : decode cX49_print 125 = .ok (.iconst (-1), 1) := dk_2 (dk_at dksX49_print_5 8 rfl rfl)
theorem dX49_print_126 : decode cX49_print 126 = .ok (.ireturn, 1) := dk_172 (dk_at dksX49_print_5 9 rfl rfl)
abbrev cX49_put : ByteArray := prog_65_method_30_code
def yX49_put : MethodName := ⟨RX49, "put", "(I)V"⟩
def dkwX49_put_0 : List UInt8 := [42, 180, 0, 60, 42, 180, 0, 173, 27, 145, 84, 42, 89, 180, 0, 173, 4, 96, 181, 0, 173, 177]
abbrev dktX49_put_0 : List UInt8 := dkwX49_put_0 ++ []
theorem dksX49_put_0 : cX49_put.data.toList.drop 0 = dktX49_put_0 := by decide +kernel
theorem dX49_put_0 : decode cX49_put 0 = .ok (.aload_n 0, 1) := dk_42 (dk_at dksX49_put_0 0 rfl rfl)
theorem dX49_put_1 : decode cX49_put 1 = .ok (.getfield 60, 3) := dk_180 0 60 (dk_at dksX49_put_0 1 rfl rfl)
theorem dX49_put_4 : decode cX49_put 4 = .ok (.aload_n 0, 1) := dk_42 (dk_at dksX49_put_0 4 rfl rfl)
theorem dX49_put_5 : decode cX49_put 5 = .ok (.getfield 173, 3) := dk_180 0 173 (dk_at dksX49_put_0 5 rfl rfl)
theorem dX49_put_8 : decode cX49_put 8 = .ok (.iload_n 1, 1) := dk_27 (dk_at dksX49_put_0 8 rfl rfl)
theorem dX49_put_9 : decode cX49_put 9 = .ok (.i2b, 1) := dk_145 (dk_at dksX49_put_0 9 rfl rfl)
theorem dX49_put_10 : decode cX49_put 10 = .ok (.bastore, 1) := dk_84 (dk_at dksX49_put_0 10 rfl rfl)
theorem dX49_put_11 : decode cX49_put 11 = .ok (.aload_n 0, 1) := dk_42 (dk_at dksX49_put_0 11 rfl rfl)
theorem dX49_put_12 : decode cX49_put 12 = .ok (.dup, 1) := dk_89 (dk_at dksX49_put_0 12 rfl rfl)
theorem dX49_put_13 : decode cX49_put 13 = .ok (.getfield 173, 3) := dk_180 0 173 (dk_at dksX49_put_0 13 rfl rfl)
theorem dX49_put_16 : decode cX49_put 16 = .ok (.iconst 1, 1) := dk_4 (dk_at dksX49_put_0 16 rfl rfl)
theorem dX49_put_17 : decode cX49_put 17 = .ok (.iadd, 1) := dk_96 (dk_at dksX49_put_0 17 rfl rfl)
theorem dX49_put_18 : decode cX49_put 18 = .ok (.putfield 173, 3) := dk_181 0 173 (dk_at dksX49_put_0 18 rfl rfl)
theorem dX49_put_21 : decode cX49_put 21 = .ok (.return_, 1) := dk_177 (dk_at dksX49_put_0 21 rfl rfl)
abbrev cX49_putNumber : ByteArray := prog_65_method_31_code
def yX49_putNumber : MethodName := ⟨RX49, "putNumber", "(J)V"⟩
def dkwX49_putNumber_2 : List UInt8 := [66, 167, 255, 228, 177]
abbrev dktX49_putNumber_2 : List UInt8 := dkwX49_putNumber_2 ++ []
def dkwX49_putNumber_1 : List UInt8 := [158, 0, 28, 42, 20, 0, 178, 31, 33, 109, 20, 0, 176, 113, 97, 136, 182, 0, 180, 33, 20, 0, 176, 109]
abbrev dktX49_putNumber_1 : List UInt8 := dkwX49_putNumber_1 ++ dktX49_putNumber_2
def dkwX49_putNumber_0 : List UInt8 := [10, 66, 31, 33, 109, 20, 0, 123, 148, 158, 0, 12, 33, 20, 0, 176, 105, 66, 167, 255, 240, 33, 9, 148]
abbrev dktX49_putNumber_0 : List UInt8 := dkwX49_putNumber_0 ++ dktX49_putNumber_1
theorem dksX49_putNumber_0 : cX49_putNumber.data.toList.drop 0 = dktX49_putNumber_0 := by decide +kernel
theorem dksX49_putNumber_1 : cX49_putNumber.data.toList.drop 24 = dktX49_putNumber_1 := dk_seg dksX49_putNumber_0 24 rfl rfl
theorem dksX49_putNumber_2 : cX49_putNumber.data.toList.drop 48 = dktX49_putNumber_2 := dk_seg dksX49_putNumber_1 24 rfl rfl
theorem dX49_putNumber_0 : decode cX49_putNumber 0 = .ok (.lconst 1, 1) := dk_10 (dk_at dksX49_putNumber_0 0 rfl rfl)
theorem dX49_putNumber_1 : decode cX49_putNumber 1 = .ok (.lstore_n 3, 1) := dk_66 (dk_at dksX49_putNumber_0 1 rfl rfl)
theorem dX49_putNumber_2 : decode cX49_putNumber 2 = .ok (.lload_n 1, 1) := dk_31 (dk_at dksX49_putNumber_0 2 rfl rfl)
theorem dX49_putNumber_3 : decode cX49_putNumber 3 = .ok (.lload_n 3, 1) := dk_33 (dk_at dksX49_putNumber_0 3 rfl rfl)
theorem dX49_putNumber_4 : decode cX49_putNumber 4 = .ok (.ldiv, 1) := dk_109 (dk_at dksX49_putNumber_0 4 rfl rfl)
theorem dX49_putNumber_5 : decode cX49_putNumber 5 = .ok (.ldc2_w 123, 3) := dk_20 0 123 (dk_at dksX49_putNumber_0 5 rfl rfl)
theorem dX49_putNumber_8 : decode cX49_putNumber 8 = .ok (.lcmp, 1) := dk_148 (dk_at dksX49_putNumber_0 8 rfl rfl)
theorem dX49_putNumber_9 : decode cX49_putNumber 9 = .ok (.ifCond .le 12, 3) := dk_158 0 12 (dk_at dksX49_putNumber_0 9 rfl rfl)
theorem dX49_putNumber_12 : decode cX49_putNumber 12 = .ok (.lload_n 3, 1) := dk_33 (dk_at dksX49_putNumber_0 12 rfl rfl)
theorem dX49_putNumber_13 : decode cX49_putNumber 13 = .ok (.ldc2_w 176, 3) := dk_20 0 176 (dk_at dksX49_putNumber_0 13 rfl rfl)
theorem dX49_putNumber_16 : decode cX49_putNumber 16 = .ok (.lmul, 1) := dk_105 (dk_at dksX49_putNumber_0 16 rfl rfl)
theorem dX49_putNumber_17 : decode cX49_putNumber 17 = .ok (.lstore_n 3, 1) := dk_66 (dk_at dksX49_putNumber_0 17 rfl rfl)
theorem dX49_putNumber_18 : decode cX49_putNumber 18 = .ok (.goto (-16), 3) := dk_167 255 240 (dk_at dksX49_putNumber_0 18 rfl rfl)
theorem dX49_putNumber_21 : decode cX49_putNumber 21 = .ok (.lload_n 3, 1) := dk_33 (dk_at dksX49_putNumber_0 21 rfl rfl)
theorem dX49_putNumber_22 : decode cX49_putNumber 22 = .ok (.lconst 0, 1) := dk_9 (dk_at dksX49_putNumber_0 22 rfl rfl)
theorem dX49_putNumber_23 : decode cX49_putNumber 23 = .ok (.lcmp, 1) := dk_148 (dk_at dksX49_putNumber_0 23 rfl rfl)
theorem dX49_putNumber_24 : decode cX49_putNumber 24 = .ok (.ifCond .le 28, 3) := dk_158 0 28 (dk_at dksX49_putNumber_1 0 rfl rfl)
theorem dX49_putNumber_27 : decode cX49_putNumber 27 = .ok (.aload_n 0, 1) := dk_42 (dk_at dksX49_putNumber_1 3 rfl rfl)
theorem dX49_putNumber_28 : decode cX49_putNumber 28 = .ok (.ldc2_w 178, 3) := dk_20 0 178 (dk_at dksX49_putNumber_1 4 rfl rfl)
theorem dX49_putNumber_31 : decode cX49_putNumber 31 = .ok (.lload_n 1, 1) := dk_31 (dk_at dksX49_putNumber_1 7 rfl rfl)
theorem dX49_putNumber_32 : decode cX49_putNumber 32 = .ok (.lload_n 3, 1) := dk_33 (dk_at dksX49_putNumber_1 8 rfl rfl)
theorem dX49_putNumber_33 : decode cX49_putNumber 33 = .ok (.ldiv, 1) := dk_109 (dk_at dksX49_putNumber_1 9 rfl rfl)
theorem dX49_putNumber_34 : decode cX49_putNumber 34 = .ok (.ldc2_w 176, 3) := dk_20 0 176 (dk_at dksX49_putNumber_1 10 rfl rfl)
theorem dX49_putNumber_37 : decode cX49_putNumber 37 = .ok (.lrem, 1) := dk_113 (dk_at dksX49_putNumber_1 13 rfl rfl)
theorem dX49_putNumber_38 : decode cX49_putNumber 38 = .ok (.ladd, 1) := dk_97 (dk_at dksX49_putNumber_1 14 rfl rfl)
theorem dX49_putNumber_39 : decode cX49_putNumber 39 = .ok (.l2i, 1) := dk_136 (dk_at dksX49_putNumber_1 15 rfl rfl)
theorem dX49_putNumber_40 : decode cX49_putNumber 40 = .ok (.invokevirtual 180, 3) := dk_182 0 180 (dk_at dksX49_putNumber_1 16 rfl rfl)
theorem dX49_putNumber_43 : decode cX49_putNumber 43 = .ok (.lload_n 3, 1) := dk_33 (dk_at dksX49_putNumber_1 19 rfl rfl)
theorem dX49_putNumber_44 : decode cX49_putNumber 44 = .ok (.ldc2_w 176, 3) := dk_20 0 176 (dk_at dksX49_putNumber_1 20 rfl rfl)
theorem dX49_putNumber_47 : decode cX49_putNumber 47 = .ok (.ldiv, 1) := dk_109 (dk_at dksX49_putNumber_1 23 rfl rfl)
theorem dX49_putNumber_48 : decode cX49_putNumber 48 = .ok (.lstore_n 3, 1) := dk_66 (dk_at dksX49_putNumber_2 0 rfl rfl)
theorem dX49_putNumber_49 : decode cX49_putNumber 49 = .ok (.goto (-28), 3) := dk_167 255 228 (dk_at dksX49_putNumber_2 1 rfl rfl)
theorem dX49_putNumber_52 : decode cX49_putNumber 52 = .ok (.return_, 1) := dk_177 (dk_at dksX49_putNumber_2 4 rfl rfl)
abbrev cX49_poke : ByteArray := prog_65_method_34_code
def yX49_poke : MethodName := ⟨RX49, "poke", "(III)Z"⟩
def dkwX49_poke_2 : List UInt8 := [16, 73, 27, 104, 28, 96, 51, 29, 130, 145, 84, 4, 172]
abbrev dktX49_poke_2 : List UInt8 := dkwX49_poke_2 ++ []
def dkwX49_poke_1 : List UInt8 := [29, 17, 0, 255, 164, 0, 5, 3, 172, 42, 180, 0, 35, 16, 73, 27, 104, 28, 96, 42, 180, 0, 35]
abbrev dktX49_poke_1 : List UInt8 := dkwX49_poke_1 ++ dktX49_poke_2
def dkwX49_poke_0 : List UInt8 := [42, 27, 182, 0, 187, 153, 0, 26, 28, 133, 20, 0, 190, 184, 0, 119, 153, 0, 15, 29, 4, 161, 0, 10]
abbrev dktX49_poke_0 : List UInt8 := dkwX49_poke_0 ++ dktX49_poke_1
theorem dksX49_poke_0 : cX49_poke.data.toList.drop 0 = dktX49_poke_0 := by decide +kernel
theorem dksX49_poke_1 : cX49_poke.data.toList.drop 24 = dktX49_poke_1 := dk_seg dksX49_poke_0 24 rfl rfl
theorem dksX49_poke_2 : cX49_poke.data.toList.drop 47 = dktX49_poke_2 := dk_seg dksX49_poke_1 23 rfl rfl
theorem dX49_poke_0 : decode cX49_poke 0 = .ok (.aload_n 0, 1) := dk_42 (dk_at dksX49_poke_0 0 rfl rfl)
theorem dX49_poke_1 : decode cX49_poke 1 = .ok (.iload_n 1, 1) := dk_27 (dk_at dksX49_poke_0 1 rfl rfl)
theorem dX49_poke_2 : decode cX49_poke 2 = .ok (.invokevirtual 187, 3) := dk_182 0 187 (dk_at dksX49_poke_0 2 rfl rfl)
theorem dX49_poke_5 : decode cX49_poke 5 = .ok (.ifCond .eq 26, 3) := dk_153 0 26 (dk_at dksX49_poke_0 5 rfl rfl)
theorem dX49_poke_8 : decode cX49_poke 8 = .ok (.iload_n 2, 1) := dk_28 (dk_at dksX49_poke_0 8 rfl rfl)
theorem dX49_poke_9 : decode cX49_poke 9 = .ok (.i2l, 1) := dk_133 (dk_at dksX49_poke_0 9 rfl rfl)
theorem dX49_poke_10 : decode cX49_poke 10 = .ok (.ldc2_w 190, 3) := dk_20 0 190 (dk_at dksX49_poke_0 10 rfl rfl)
theorem dX49_poke_13 : decode cX49_poke 13 = .ok (.invokestatic 119, 3) := dk_184 0 119 (dk_at dksX49_poke_0 13 rfl rfl)
theorem dX49_poke_16 : decode cX49_poke 16 = .ok (.ifCond .eq 15, 3) := dk_153 0 15 (dk_at dksX49_poke_0 16 rfl rfl)
theorem dX49_poke_19 : decode cX49_poke 19 = .ok (.iload_n 3, 1) := dk_29 (dk_at dksX49_poke_0 19 rfl rfl)
theorem dX49_poke_20 : decode cX49_poke 20 = .ok (.iconst 1, 1) := dk_4 (dk_at dksX49_poke_0 20 rfl rfl)
theorem dX49_poke_21 : decode cX49_poke 21 = .ok (.if_icmp .lt 10, 3) := dk_161 0 10 (dk_at dksX49_poke_0 21 rfl rfl)
theorem dX49_poke_24 : decode cX49_poke 24 = .ok (.iload_n 3, 1) := dk_29 (dk_at dksX49_poke_1 0 rfl rfl)
theorem dX49_poke_25 : decode cX49_poke 25 = .ok (.sipush 255, 3) := dk_17 0 255 (dk_at dksX49_poke_1 1 rfl rfl)
theorem dX49_poke_28 : decode cX49_poke 28 = .ok (.if_icmp .le 5, 3) := dk_164 0 5 (dk_at dksX49_poke_1 4 rfl rfl)
theorem dX49_poke_31 : decode cX49_poke 31 = .ok (.iconst 0, 1) := dk_3 (dk_at dksX49_poke_1 7 rfl rfl)
theorem dX49_poke_32 : decode cX49_poke 32 = .ok (.ireturn, 1) := dk_172 (dk_at dksX49_poke_1 8 rfl rfl)
theorem dX49_poke_33 : decode cX49_poke 33 = .ok (.aload_n 0, 1) := dk_42 (dk_at dksX49_poke_1 9 rfl rfl)
theorem dX49_poke_34 : decode cX49_poke 34 = .ok (.getfield 35, 3) := dk_180 0 35 (dk_at dksX49_poke_1 10 rfl rfl)
theorem dX49_poke_37 : decode cX49_poke 37 = .ok (.bipush 73, 2) := dk_16 73 (dk_at dksX49_poke_1 13 rfl rfl)
theorem dX49_poke_39 : decode cX49_poke 39 = .ok (.iload_n 1, 1) := dk_27 (dk_at dksX49_poke_1 15 rfl rfl)
theorem dX49_poke_40 : decode cX49_poke 40 = .ok (.imul, 1) := dk_104 (dk_at dksX49_poke_1 16 rfl rfl)
theorem dX49_poke_41 : decode cX49_poke 41 = .ok (.iload_n 2, 1) := dk_28 (dk_at dksX49_poke_1 17 rfl rfl)
theorem dX49_poke_42 : decode cX49_poke 42 = .ok (.iadd, 1) := dk_96 (dk_at dksX49_poke_1 18 rfl rfl)
theorem dX49_poke_43 : decode cX49_poke 43 = .ok (.aload_n 0, 1) := dk_42 (dk_at dksX49_poke_1 19 rfl rfl)
theorem dX49_poke_44 : decode cX49_poke 44 = .ok (.getfield 35, 3) := dk_180 0 35 (dk_at dksX49_poke_1 20 rfl rfl)
theorem dX49_poke_47 : decode cX49_poke 47 = .ok (.bipush 73, 2) := dk_16 73 (dk_at dksX49_poke_2 0 rfl rfl)
theorem dX49_poke_49 : decode cX49_poke 49 = .ok (.iload_n 1, 1) := dk_27 (dk_at dksX49_poke_2 2 rfl rfl)
theorem dX49_poke_50 : decode cX49_poke 50 = .ok (.imul, 1) := dk_104 (dk_at dksX49_poke_2 3 rfl rfl)
theorem dX49_poke_51 : decode cX49_poke 51 = .ok (.iload_n 2, 1) := dk_28 (dk_at dksX49_poke_2 4 rfl rfl)
theorem dX49_poke_52 : decode cX49_poke 52 = .ok (.iadd, 1) := dk_96 (dk_at dksX49_poke_2 5 rfl rfl)
theorem dX49_poke_53 : decode cX49_poke 53 = .ok (.baload, 1) := dk_51 (dk_at dksX49_poke_2 6 rfl rfl)
theorem dX49_poke_54 : decode cX49_poke 54 = .ok (.iload_n 3, 1) := dk_29 (dk_at dksX49_poke_2 7 rfl rfl)
theorem dX49_poke_55 : decode cX49_poke 55 = .ok (.ixor, 1) := dk_130 (dk_at dksX49_poke_2 8 rfl rfl)
theorem dX49_poke_56 : decode cX49_poke 56 = .ok (.i2b, 1) := dk_145 (dk_at dksX49_poke_2 9 rfl rfl)
theorem dX49_poke_57 : decode cX49_poke 57 = .ok (.bastore, 1) := dk_84 (dk_at dksX49_poke_2 10 rfl rfl)
theorem dX49_poke_58 : decode cX49_poke 58 = .ok (.iconst 1, 1) := dk_4 (dk_at dksX49_poke_2 11 rfl rfl)
theorem dX49_poke_59 : decode cX49_poke 59 = .ok (.ireturn, 1) := dk_172 (dk_at dksX49_poke_2 12 rfl rfl)
abbrev cX49_isRow : ByteArray := prog_65_method_33_code
def yX49_isRow : MethodName := ⟨RX49, "isRow", "(I)Z"⟩
def dkwX49_isRow_0 : List UInt8 := [42, 3, 181, 0, 67, 27, 155, 0, 15, 27, 42, 180, 0, 98, 162, 0, 7, 4, 167, 0, 4, 3, 172]
abbrev dktX49_isRow_0 : List UInt8 := dkwX49_isRow_0 ++ []
theorem dksX49_isRow_0 : cX49_isRow.data.toList.drop 0 = dktX49_isRow_0 := by decide +kernel
theorem dX49_isRow_0 : decode cX49_isRow 0 = .ok (.aload_n 0, 1) := dk_42 (dk_at dksX49_isRow_0 0 rfl rfl)
theorem dX49_isRow_1 : decode cX49_isRow 1 = .ok (.iconst 0, 1) := dk_3 (dk_at dksX49_isRow_0 1 rfl rfl)
theorem dX49_isRow_2 : decode cX49_isRow 2 = .ok (.putfield 67, 3) := dk_181 0 67 (dk_at dksX49_isRow_0 2 rfl rfl)
theorem dX49_isRow_5 : decode cX49_isRow 5 = .ok (.iload_n 1, 1) := dk_27 (dk_at dksX49_isRow_0 5 rfl rfl)
theorem dX49_isRow_6 : decode cX49_isRow 6 = .ok (.ifCond .lt 15, 3) := dk_155 0 15 (dk_at dksX49_isRow_0 6 rfl rfl)
theorem dX49_isRow_9 : decode cX49_isRow 9 = .ok (.iload_n 1, 1) := dk_27 (dk_at dksX49_isRow_0 9 rfl rfl)
theorem dX49_isRow_10 : decode cX49_isRow 10 = .ok (.aload_n 0, 1) := dk_42 (dk_at dksX49_isRow_0 10 rfl rfl)
theorem dX49_isRow_11 : decode cX49_isRow 11 = .ok (.getfield 98, 3) := dk_180 0 98 (dk_at dksX49_isRow_0 11 rfl rfl)
theorem dX49_isRow_14 : decode cX49_isRow 14 = .ok (.if_icmp .ge 7, 3) := dk_162 0 7 (dk_at dksX49_isRow_0 14 rfl rfl)
theorem dX49_isRow_17 : decode cX49_isRow 17 = .ok (.iconst 1, 1) := dk_4 (dk_at dksX49_isRow_0 17 rfl rfl)
theorem dX49_isRow_18 : decode cX49_isRow 18 = .ok (.goto 4, 3) := dk_167 0 4 (dk_at dksX49_isRow_0 18 rfl rfl)
theorem dX49_isRow_21 : decode cX49_isRow 21 = .ok (.iconst 0, 1) := dk_3 (dk_at dksX49_isRow_0 21 rfl rfl)
theorem dX49_isRow_22 : decode cX49_isRow 22 = .ok (.ireturn, 1) := dk_172 (dk_at dksX49_isRow_0 22 rfl rfl)
abbrev cX49_byteAt : ByteArray := prog_65_method_35_code
def yX49_byteAt : MethodName := ⟨RX49, "byteAt", "(II)I"⟩
def dkwX49_byteAt_2 : List UInt8 := [96, 51, 17, 0, 255, 126, 172]
abbrev dktX49_byteAt_2 : List UInt8 := dkwX49_byteAt_2 ++ []
def dkwX49_byteAt_1 : List UInt8 := [3, 181, 0, 67, 42, 180, 0, 67, 158, 0, 7, 3, 167, 0, 18, 42, 180, 0, 35, 16, 73, 27, 104, 28]
abbrev dktX49_byteAt_1 : List UInt8 := dkwX49_byteAt_1 ++ dktX49_byteAt_2
def dkwX49_byteAt_0 : List UInt8 := [42, 42, 27, 182, 0, 187, 153, 0, 14, 28, 133, 20, 0, 190, 184, 0, 119, 154, 0, 7, 4, 167, 0, 4]
abbrev dktX49_byteAt_0 : List UInt8 := dkwX49_byteAt_0 ++ dktX49_byteAt_1
theorem dksX49_byteAt_0 : cX49_byteAt.data.toList.drop 0 = dktX49_byteAt_0 := by decide +kernel
theorem dksX49_byteAt_1 : cX49_byteAt.data.toList.drop 24 = dktX49_byteAt_1 := dk_seg dksX49_byteAt_0 24 rfl rfl
theorem dksX49_byteAt_2 : cX49_byteAt.data.toList.drop 48 = dktX49_byteAt_2 := dk_seg dksX49_byteAt_1 24 rfl rfl
theorem dX49_byteAt_0 : decode cX49_byteAt 0 = .ok (.aload_n 0, 1) := dk_42 (dk_at dksX49_byteAt_0 0 rfl rfl)
theorem dX49_byteAt_1 : decode cX49_byteAt 1 = .ok (.aload_n 0, 1) := dk_42 (dk_at dksX49_byteAt_0 1 rfl rfl)
theorem dX49_byteAt_2 : decode cX49_byteAt 2 = .ok (.iload_n 1, 1) := dk_27 (dk_at dksX49_byteAt_0 2 rfl rfl)
theorem dX49_byteAt_3 : decode cX49_byteAt 3 = .ok (.invokevirtual 187, 3) := dk_182 0 187 (dk_at dksX49_byteAt_0 3 rfl rfl)
theorem dX49_byteAt_6 : decode cX49_byteAt 6 = .ok (.ifCond .eq 14, 3) := dk_153 0 14 (dk_at dksX49_byteAt_0 6 rfl rfl)
theorem dX49_byteAt_9 : decode cX49_byteAt 9 = .ok (.iload_n 2, 1) := dk_28 (dk_at dksX49_byteAt_0 9 rfl rfl)
theorem dX49_byteAt_10 : decode cX49_byteAt 10 = .ok (.i2l, 1) := dk_133 (dk_at dksX49_byteAt_0 10 rfl rfl)
theorem dX49_byteAt_11 : decode cX49_byteAt 11 = .ok (.ldc2_w 190, 3) := dk_20 0 190 (dk_at dksX49_byteAt_0 11 rfl rfl)
theorem dX49_byteAt_14 : decode cX49_byteAt 14 = .ok (.invokestatic 119, 3) := dk_184 0 119 (dk_at dksX49_byteAt_0 14 rfl rfl)
theorem dX49_byteAt_17 : decode cX49_byteAt 17 = .ok (.ifCond .ne 7, 3) := dk_154 0 7 (dk_at dksX49_byteAt_0 17 rfl rfl)
theorem dX49_byteAt_20 : decode cX49_byteAt 20 = .ok (.iconst 1, 1) := dk_4 (dk_at dksX49_byteAt_0 20 rfl rfl)
theorem dX49_byteAt_21 : decode cX49_byteAt 21 = .ok (.goto 4, 3) := dk_167 0 4 (dk_at dksX49_byteAt_0 21 rfl rfl)
theorem dX49_byteAt_24 : decode cX49_byteAt 24 = .ok (.iconst 0, 1) := dk_3 (dk_at dksX49_byteAt_1 0 rfl rfl)
theorem dX49_byteAt_25 : decode cX49_byteAt 25 = .ok (.putfield 67, 3) := dk_181 0 67 (dk_at dksX49_byteAt_1 1 rfl rfl)
theorem dX49_byteAt_28 : decode cX49_byteAt 28 = .ok (.aload_n 0, 1) := dk_42 (dk_at dksX49_byteAt_1 4 rfl rfl)
theorem dX49_byteAt_29 : decode cX49_byteAt 29 = .ok (.getfield 67, 3) := dk_180 0 67 (dk_at dksX49_byteAt_1 5 rfl rfl)
theorem dX49_byteAt_32 : decode cX49_byteAt 32 = .ok (.ifCond .le 7, 3) := dk_158 0 7 (dk_at dksX49_byteAt_1 8 rfl rfl)
theorem dX49_byteAt_35 : decode cX49_byteAt 35 = .ok (.iconst 0, 1) := dk_3 (dk_at dksX49_byteAt_1 11 rfl rfl)
theorem dX49_byteAt_36 : decode cX49_byteAt 36 = .ok (.goto 18, 3) := dk_167 0 18 (dk_at dksX49_byteAt_1 12 rfl rfl)
theorem dX49_byteAt_39 : decode cX49_byteAt 39 = .ok (.aload_n 0, 1) := dk_42 (dk_at dksX49_byteAt_1 15 rfl rfl)
theorem dX49_byteAt_40 : decode cX49_byteAt 40 = .ok (.getfield 35, 3) := dk_180 0 35 (dk_at dksX49_byteAt_1 16 rfl rfl)
theorem dX49_byteAt_43 : decode cX49_byteAt 43 = .ok (.bipush 73, 2) := dk_16 73 (dk_at dksX49_byteAt_1 19 rfl rfl)
theorem dX49_byteAt_45 : decode cX49_byteAt 45 = .ok (.iload_n 1, 1) := dk_27 (dk_at dksX49_byteAt_1 21 rfl rfl)
theorem dX49_byteAt_46 : decode cX49_byteAt 46 = .ok (.imul, 1) := dk_104 (dk_at dksX49_byteAt_1 22 rfl rfl)
theorem dX49_byteAt_47 : decode cX49_byteAt 47 = .ok (.iload_n 2, 1) := dk_28 (dk_at dksX49_byteAt_1 23 rfl rfl)
theorem dX49_byteAt_48 : decode cX49_byteAt 48 = .ok (.iadd, 1) := dk_96 (dk_at dksX49_byteAt_2 0 rfl rfl)
theorem dX49_byteAt_49 : decode cX49_byteAt 49 = .ok (.baload, 1) := dk_51 (dk_at dksX49_byteAt_2 1 rfl rfl)
theorem dX49_byteAt_50 : decode cX49_byteAt 50 = .ok (.sipush 255, 3) := dk_17 0 255 (dk_at dksX49_byteAt_2 2 rfl rfl)
theorem dX49_byteAt_53 : decode cX49_byteAt 53 = .ok (.iand, 1) := dk_126 (dk_at dksX49_byteAt_2 5 rfl rfl)
theorem dX49_byteAt_54 : decode cX49_byteAt 54 = .ok (.ireturn, 1) := dk_172 (dk_at dksX49_byteAt_2 6 rfl rfl)
abbrev cX49_digest : ByteArray := prog_65_method_36_code
def yX49_digest : MethodName := ⟨RX49, "digest", "(II)I"⟩
def dkwX49_digest_1 : List UInt8 := [16, 73, 27, 104, 16, 41, 96, 28, 96, 51, 17, 0, 255, 126, 167, 0, 4, 2, 172]
abbrev dktX49_digest_1 : List UInt8 := dkwX49_digest_1 ++ []
def dkwX49_digest_0 : List UInt8 := [42, 27, 182, 0, 187, 153, 0, 35, 28, 133, 20, 0, 192, 184, 0, 119, 153, 0, 24, 42, 180, 0, 35]
abbrev dktX49_digest_0 : List UInt8 := dkwX49_digest_0 ++ dktX49_digest_1
theorem dksX49_digest_0 : cX49_digest.data.toList.drop 0 = dktX49_digest_0 := by decide +kernel
theorem dksX49_digest_1 : cX49_digest.data.toList.drop 23 = dktX49_digest_1 := dk_seg dksX49_digest_0 23 rfl rfl
theorem dX49_digest_0 : decode cX49_digest 0 = .ok (.aload_n 0, 1) := dk_42 (dk_at dksX49_digest_0 0 rfl rfl)
theorem dX49_digest_1 : decode cX49_digest 1 = .ok (.iload_n 1, 1) := dk_27 (dk_at dksX49_digest_0 1 rfl rfl)
theorem dX49_digest_2 : decode cX49_digest 2 = .ok (.invokevirtual 187, 3) := dk_182 0 187 (dk_at dksX49_digest_0 2 rfl rfl)
theorem dX49_digest_5 : decode cX49_digest 5 = .ok (.ifCond .eq 35, 3) := dk_153 0 35 (dk_at dksX49_digest_0 5 rfl rfl)
theorem dX49_digest_8 : decode cX49_digest 8 = .ok (.iload_n 2, 1) := dk_28 (dk_at dksX49_digest_0 8 rfl rfl)
theorem dX49_digest_9 : decode cX49_digest 9 = .ok (.i2l, 1) := dk_133 (dk_at dksX49_digest_0 9 rfl rfl)
theorem dX49_digest_10 : decode cX49_digest 10 = .ok (.ldc2_w 192, 3) := dk_20 0 192 (dk_at dksX49_digest_0 10 rfl rfl)
theorem dX49_digest_13 : decode cX49_digest 13 = .ok (.invokestatic 119, 3) := dk_184 0 119 (dk_at dksX49_digest_0 13 rfl rfl)
theorem dX49_digest_16 : decode cX49_digest 16 = .ok (.ifCond .eq 24, 3) := dk_153 0 24 (dk_at dksX49_digest_0 16 rfl rfl)
theorem dX49_digest_19 : decode cX49_digest 19 = .ok (.aload_n 0, 1) := dk_42 (dk_at dksX49_digest_0 19 rfl rfl)
theorem dX49_digest_20 : decode cX49_digest 20 = .ok (.getfield 35, 3) := dk_180 0 35 (dk_at dksX49_digest_0 20 rfl rfl)
theorem dX49_digest_23 : decode cX49_digest 23 = .ok (.bipush 73, 2) := dk_16 73 (dk_at dksX49_digest_1 0 rfl rfl)
theorem dX49_digest_25 : decode cX49_digest 25 = .ok (.iload_n 1, 1) := dk_27 (dk_at dksX49_digest_1 2 rfl rfl)
theorem dX49_digest_26 : decode cX49_digest 26 = .ok (.imul, 1) := dk_104 (dk_at dksX49_digest_1 3 rfl rfl)
theorem dX49_digest_27 : decode cX49_digest 27 = .ok (.bipush 41, 2) := dk_16 41 (dk_at dksX49_digest_1 4 rfl rfl)
theorem dX49_digest_29 : decode cX49_digest 29 = .ok (.iadd, 1) := dk_96 (dk_at dksX49_digest_1 6 rfl rfl)
theorem dX49_digest_30 : decode cX49_digest 30 = .ok (.iload_n 2, 1) := dk_28 (dk_at dksX49_digest_1 7 rfl rfl)
theorem dX49_digest_31 : decode cX49_digest 31 = .ok (.iadd, 1) := dk_96 (dk_at dksX49_digest_1 8 rfl rfl)
theorem dX49_digest_32 : decode cX49_digest 32 = .ok (.baload, 1) := dk_51 (dk_at dksX49_digest_1 9 rfl rfl)
theorem dX49_digest_33 : decode cX49_digest 33 = .ok (.sipush 255, 3) := dk_17 0 255 (dk_at dksX49_digest_1 10 rfl rfl)
theorem dX49_digest_36 : decode cX49_digest 36 = .ok (.iand, 1) := dk_126 (dk_at dksX49_digest_1 13 rfl rfl)
theorem dX49_digest_37 : decode cX49_digest 37 = .ok (.goto 4, 3) := dk_167 0 4 (dk_at dksX49_digest_1 14 rfl rfl)
theorem dX49_digest_40 : decode cX49_digest 40 = .ok (.iconst (-1), 1) := dk_2 (dk_at dksX49_digest_1 17 rfl rfl)
theorem dX49_digest_41 : decode cX49_digest 41 = .ok (.ireturn, 1) := dk_172 (dk_at dksX49_digest_1 18 rfl rfl)
abbrev cX49_root : ByteArray := prog_65_method_38_code
def yX49_root : MethodName := ⟨RX49, "root", "(II)I"⟩
def dkwX49_root_6 : List UInt8 := [132, 5, 2, 167, 255, 223, 21, 4, 62, 167, 255, 206, 42, 180, 0, 57, 28, 51, 17, 0, 255, 126, 172]
abbrev dktX49_root_6 : List UInt8 := dkwX49_root_6 ++ []
def dkwX49_root_5 : List UInt8 := [21, 5, 21, 4, 21, 5, 4, 96, 29, 162, 0, 7, 4, 167, 0, 4, 3, 182, 0, 194, 132, 4, 1]
abbrev dktX49_root_5 : List UInt8 := dkwX49_root_5 ++ dktX49_root_6
def dkwX49_root_4 : List UInt8 := [154, 0, 5, 2, 172, 29, 4, 164, 0, 51, 3, 54, 4, 3, 54, 5, 21, 5, 29, 162, 0, 33, 42]
abbrev dktX49_root_4 : List UInt8 := dkwX49_root_4 ++ dktX49_root_5
def dkwX49_root_3 : List UInt8 := [167, 255, 218, 132, 3, 1, 132, 4, 1, 167, 255, 186, 29, 153, 0, 14, 28, 133, 20, 0, 192, 184, 0, 119]
abbrev dktX49_root_3 : List UInt8 := dkwX49_root_3 ++ dktX49_root_4
def dkwX49_root_2 : List UInt8 := [104, 21, 5, 96, 42, 180, 0, 35, 16, 73, 21, 4, 104, 16, 41, 96, 21, 5, 96, 51, 84, 132, 5, 1]
abbrev dktX49_root_2 : List UInt8 := dkwX49_root_2 ++ dktX49_root_3
def dkwX49_root_1 : List UInt8 := [21, 4, 46, 27, 160, 0, 50, 3, 54, 5, 21, 5, 16, 32, 162, 0, 37, 42, 180, 0, 57, 16, 32, 29]
abbrev dktX49_root_1 : List UInt8 := dkwX49_root_1 ++ dktX49_root_2
def dkwX49_root_0 : List UInt8 := [42, 3, 181, 0, 67, 3, 62, 3, 54, 4, 21, 4, 42, 180, 0, 98, 162, 0, 67, 42, 180, 0, 39]
abbrev dktX49_root_0 : List UInt8 := dkwX49_root_0 ++ dktX49_root_1
theorem dksX49_root_0 : cX49_root.data.toList.drop 0 = dktX49_root_0 := by decide +kernel
theorem dksX49_root_1 : cX49_root.data.toList.drop 23 = dktX49_root_1 := dk_seg dksX49_root_0 23 rfl rfl
theorem dksX49_root_2 : cX49_root.data.toList.drop 47 = dktX49_root_2 := dk_seg dksX49_root_1 24 rfl rfl
theorem dksX49_root_3 : cX49_root.data.toList.drop 71 = dktX49_root_3 := dk_seg dksX49_root_2 24 rfl rfl
theorem dksX49_root_4 : cX49_root.data.toList.drop 95 = dktX49_root_4 := dk_seg dksX49_root_3 24 rfl rfl
theorem dksX49_root_5 : cX49_root.data.toList.drop 118 = dktX49_root_5 := dk_seg dksX49_root_4 23 rfl rfl
theorem dksX49_root_6 : cX49_root.data.toList.drop 141 = dktX49_root_6 := dk_seg dksX49_root_5 23 rfl rfl
theorem dX49_root_0 : decode cX49_root 0 = .ok (.aload_n 0, 1) := dk_42 (dk_at dksX49_root_0 0 rfl rfl)
theorem dX49_root_1 : decode cX49_root 1 = .ok (.iconst 0, 1) := dk_3 (dk_at dksX49_root_0 1 rfl rfl)
theorem dX49_root_2 : decode cX49_root 2 = .ok (.putfield 67, 3) := dk_181 0 67 (dk_at dksX49_root_0 2 rfl rfl)
theorem dX49_root_5 : decode cX49_root 5 = .ok (.iconst 0, 1) := dk_3 (dk_at dksX49_root_0 5 rfl rfl)
theorem dX49_root_6 : decode cX49_root 6 = .ok (.istore_n 3, 1) := dk_62 (dk_at dksX49_root_0 6 rfl rfl)
theorem dX49_root_7 : decode cX49_root 7 = .ok (.iconst 0, 1) := dk_3 (dk_at dksX49_root_0 7 rfl rfl)
theorem dX49_root_8 : decode cX49_root 8 = .ok (.istore 4, 2) := dk_54 4 (dk_at dksX49_root_0 8 rfl rfl)
theorem dX49_root_10 : decode cX49_root 10 = .ok (.iload 4, 2) := dk_21 4 (dk_at dksX49_root_0 10 rfl rfl)
theorem dX49_root_12 : decode cX49_root 12 = .ok (.aload_n 0, 1) := dk_42 (dk_at dksX49_root_0 12 rfl rfl)
theorem dX49_root_13 : decode cX49_root 13 = .ok (.getfield 98, 3) := dk_180 0 98 (dk_at dksX49_root_0 13 rfl rfl)
theorem dX49_root_16 : decode cX49_root 16 = .ok (.if_icmp .ge 67, 3) := dk_162 0 67 (dk_at dksX49_root_0 16 rfl rfl)
theorem dX49_root_19 : decode cX49_root 19 = .ok (.aload_n 0, 1) := dk_42 (dk_at dksX49_root_0 19 rfl rfl)
theorem dX49_root_20 : decode cX49_root 20 = .ok (.getfield 39, 3) := dk_180 0 39 (dk_at dksX49_root_0 20 rfl rfl)
theorem dX49_root_23 : decode cX49_root 23 = .ok (.iload 4, 2) := dk_21 4 (dk_at dksX49_root_1 0 rfl rfl)
theorem dX49_root_25 : decode cX49_root 25 = .ok (.iaload, 1) := dk_46 (dk_at dksX49_root_1 2 rfl rfl)
theorem dX49_root_26 : decode cX49_root 26 = .ok (.iload_n 1, 1) := dk_27 (dk_at dksX49_root_1 3 rfl rfl)
theorem dX49_root_27 : decode cX49_root 27 = .ok (.if_icmp .ne 50, 3) := dk_160 0 50 (dk_at dksX49_root_1 4 rfl rfl)
theorem dX49_root_30 : decode cX49_root 30 = .ok (.iconst 0, 1) := dk_3 (dk_at dksX49_root_1 7 rfl rfl)
theorem dX49_root_31 : decode cX49_root 31 = .ok (.istore 5, 2) := dk_54 5 (dk_at dksX49_root_1 8 rfl rfl)
theorem dX49_root_33 : decode cX49_root 33 = .ok (.iload 5, 2) := dk_21 5 (dk_at dksX49_root_1 10 rfl rfl)
theorem dX49_root_35 : decode cX49_root 35 = .ok (.bipush 32, 2) := dk_16 32 (dk_at dksX49_root_1 12 rfl rfl)
theorem dX49_root_37 : decode cX49_root 37 = .ok (.if_icmp .ge 37, 3) := dk_162 0 37 (dk_at dksX49_root_1 14 rfl rfl)
theorem dX49_root_40 : decode cX49_root 40 = .ok (.aload_n 0, 1) := dk_42 (dk_at dksX49_root_1 17 rfl rfl)
theorem dX49_root_41 : decode cX49_root 41 = .ok (.getfield 57, 3) := dk_180 0 57 (dk_at dksX49_root_1 18 rfl rfl)
theorem dX49_root_44 : decode cX49_root 44 = .ok (.bipush 32, 2) := dk_16 32 (dk_at dksX49_root_1 21 rfl rfl)
theorem dX49_root_46 : decode cX49_root 46 = .ok (.iload_n 3, 1) := dk_29 (dk_at dksX49_root_1 23 rfl rfl)
theorem dX49_root_47 : decode cX49_root 47 = .ok (.imul, 1) := dk_104 (dk_at dksX49_root_2 0 rfl rfl)
theorem dX49_root_48 : decode cX49_root 48 = .ok (.iload 5, 2) := dk_21 5 (dk_at dksX49_root_2 1 rfl rfl)
theorem dX49_root_50 : decode cX49_root 50 = .ok (.iadd, 1) := dk_96 (dk_at dksX49_root_2 3 rfl rfl)
theorem dX49_root_51 : decode cX49_root 51 = .ok (.aload_n 0, 1) := dk_42 (dk_at dksX49_root_2 4 rfl rfl)
theorem dX49_root_52 : decode cX49_root 52 = .ok (.getfield 35, 3) := dk_180 0 35 (dk_at dksX49_root_2 5 rfl rfl)
theorem dX49_root_55 : decode cX49_root 55 = .ok (.bipush 73, 2) := dk_16 73 (dk_at dksX49_root_2 8 rfl rfl)
theorem dX49_root_57 : decode cX49_root 57 = .ok (.iload 4, 2) := dk_21 4 (dk_at dksX49_root_2 10 rfl rfl)
theorem dX49_root_59 : decode cX49_root 59 = .ok (.imul, 1) := dk_104 (dk_at dksX49_root_2 12 rfl rfl)
theorem dX49_root_60 : decode cX49_root 60 = .ok (.bipush 41, 2) := dk_16 41 (dk_at dksX49_root_2 13 rfl rfl)
theorem dX49_root_62 : decode cX49_root 62 = .ok (.iadd, 1) := dk_96 (dk_at dksX49_root_2 15 rfl rfl)
theorem dX49_root_63 : decode cX49_root 63 = .ok (.iload 5, 2) := dk_21 5 (dk_at dksX49_root_2 16 rfl rfl)
theorem dX49_root_65 : decode cX49_root 65 = .ok (.iadd, 1) := dk_96 (dk_at dksX49_root_2 18 rfl rfl)
theorem dX49_root_66 : decode cX49_root 66 = .ok (.baload, 1) := dk_51 (dk_at dksX49_root_2 19 rfl rfl)
theorem dX49_root_67 : decode cX49_root 67 = .ok (.bastore, 1) := dk_84 (dk_at dksX49_root_2 20 rfl rfl)
theorem dX49_root_68 : decode cX49_root 68 = .ok (.iinc 5 1, 3) := dk_132 5 1 (dk_at dksX49_root_2 21 rfl rfl)
theorem dX49_root_71 : decode cX49_root 71 = .ok (.goto (-38), 3) := dk_167 255 218 (dk_at dksX49_root_3 0 rfl rfl)
theorem dX49_root_74 : decode cX49_root 74 = .ok (.iinc 3 1, 3) := dk_132 3 1 (dk_at dksX49_root_3 3 rfl rfl)
theorem dX49_root_77 : decode cX49_root 77 = .ok (.iinc 4 1, 3) := dk_132 4 1 (dk_at dksX49_root_3 6 rfl rfl)
theorem dX49_root_80 : decode cX49_root 80 = .ok (.goto (-70), 3) := dk_167 255 186 (dk_at dksX49_root_3 9 rfl rfl)
theorem dX49_root_83 : decode cX49_root 83 = .ok (.iload_n 3, 1) := dk_29 (dk_at dksX49_root_3 12 rfl rfl)
theorem dX49_root_84 : decode cX49_root 84 = .ok (.ifCond .eq 14, 3) := dk_153 0 14 (dk_at dksX49_root_3 13 rfl rfl)
theorem dX49_root_87 : decode cX49_root 87 = .ok (.iload_n 2, 1) := dk_28 (dk_at dksX49_root_3 16 rfl rfl)
theorem dX49_root_88 : decode cX49_root 88 = .ok (.i2l, 1) := dk_133 (dk_at dksX49_root_3 17 rfl rfl)
theorem dX49_root_89 : decode cX49_root 89 = .ok (.ldc2_w 192, 3) := dk_20 0 192 (dk_at dksX49_root_3 18 rfl rfl)
theorem dX49_root_92 : decode cX49_root 92 = .ok (.invokestatic 119, 3) := dk_184 0 119 (dk_at dksX49_root_3 21 rfl rfl)
theorem dX49_root_95 : decode cX49_root 95 = .ok (.ifCond .ne 5, 3) := dk_154 0 5 (dk_at dksX49_root_4 0 rfl rfl)
theorem dX49_root_98 : decode cX49_root 98 = .ok (.iconst (-1), 1) := dk_2 (dk_at dksX49_root_4 3 rfl rfl)
theorem dX49_root_99 : decode cX49_root 99 = .ok (.ireturn, 1) := dk_172 (dk_at dksX49_root_4 4 rfl rfl)
theorem dX49_root_100 : decode cX49_root 100 = .ok (.iload_n 3, 1) := dk_29 (dk_at dksX49_root_4 5 rfl rfl)
theorem dX49_root_101 : decode cX49_root 101 = .ok (.iconst 1, 1) := dk_4 (dk_at dksX49_root_4 6 rfl rfl)
theorem dX49_root_102 : decode cX49_root 102 = .ok (.if_icmp .le 51, 3) := dk_164 0 51 (dk_at dksX49_root_4 7 rfl rfl)
theorem dX49_root_105 : decode cX49_root 105 = .ok (.iconst 0, 1) := dk_3 (dk_at dksX49_root_4 10 rfl rfl)
theorem dX49_root_106 : decode cX49_root 106 = .ok (.istore 4, 2) := dk_54 4 (dk_at dksX49_root_4 11 rfl rfl)
theorem dX49_root_108 : decode cX49_root 108 = .ok (.iconst 0, 1) := dk_3 (dk_at dksX49_root_4 13 rfl rfl)
theorem dX49_root_109 : decode cX49_root 109 = .ok (.istore 5, 2) := dk_54 5 (dk_at dksX49_root_4 14 rfl rfl)
theorem dX49_root_111 : decode cX49_root 111 = .ok (.iload 5, 2) := dk_21 5 (dk_at dksX49_root_4 16 rfl rfl)
theorem dX49_root_113 : decode cX49_root 113 = .ok (.iload_n 3, 1) := dk_29 (dk_at dksX49_root_4 18 rfl rfl)
theorem dX49_root_114 : decode cX49_root 114 = .ok (.if_icmp .ge 33, 3) := dk_162 0 33 (dk_at dksX49_root_4 19 rfl rfl)
theorem dX49_root_117 : decode cX49_root 117 = .ok (.aload_n 0, 1) := dk_42 (dk_at dksX49_root_4 22 rfl rfl)
theorem dX49_root_118 : decode cX49_root 118 = .ok (.iload 5, 2) := dk_21 5 (dk_at dksX49_root_5 0 rfl rfl)
theorem dX49_root_120 : decode cX49_root 120 = .ok (.iload 4, 2) := dk_21 4 (dk_at dksX49_root_5 2 rfl rfl)
theorem dX49_root_122 : decode cX49_root 122 = .ok (.iload 5, 2) := dk_21 5 (dk_at dksX49_root_5 4 rfl rfl)
theorem dX49_root_124 : decode cX49_root 124 = .ok (.iconst 1, 1) := dk_4 (dk_at dksX49_root_5 6 rfl rfl)
theorem dX49_root_125 : decode cX49_root 125 = .ok (.iadd, 1) := dk_96 (dk_at dksX49_root_5 7 rfl rfl)
theorem dX49_root_126 : decode cX49_root 126 = .ok (.iload_n 3, 1) := dk_29 (dk_at dksX49_root_5 8 rfl rfl)
theorem dX49_root_127 : decode cX49_root 127 = .ok (.if_icmp .ge 7, 3) := dk_162 0 7 (dk_at dksX49_root_5 9 rfl rfl)
theorem dX49_root_130 : decode cX49_root 130 = .ok (.iconst 1, 1) := dk_4 (dk_at dksX49_root_5 12 rfl rfl)
theorem dX49_root_131 : decode cX49_root 131 = .ok (.goto 4, 3) := dk_167 0 4 (dk_at dksX49_root_5 13 rfl rfl)
theorem dX49_root_134 : decode cX49_root 134 = .ok (.iconst 0, 1) := dk_3 (dk_at dksX49_root_5 16 rfl rfl)
theorem dX49_root_135 : decode cX49_root 135 = .ok (.invokevirtual 194, 3) := dk_182 0 194 (dk_at dksX49_root_5 17 rfl rfl)
theorem dX49_root_138 : decode cX49_root 138 = .ok (.iinc 4 1, 3) := dk_132 4 1 (dk_at dksX49_root_5 20 rfl rfl)
theorem dX49_root_141 : decode cX49_root 141 = .ok (.iinc 5 2, 3) := dk_132 5 2 (dk_at dksX49_root_6 0 rfl rfl)
theorem dX49_root_144 : decode cX49_root 144 = .ok (.goto (-33), 3) := dk_167 255 223 (dk_at dksX49_root_6 3 rfl rfl)
theorem dX49_root_147 : decode cX49_root 147 = .ok (.iload 4, 2) := dk_21 4 (dk_at dksX49_root_6 6 rfl rfl)
theorem dX49_root_149 : decode cX49_root 149 = .ok (.istore_n 3, 1) := dk_62 (dk_at dksX49_root_6 8 rfl rfl)
theorem dX49_root_150 : decode cX49_root 150 = .ok (.goto (-50), 3) := dk_167 255 206 (dk_at dksX49_root_6 9 rfl rfl)
theorem dX49_root_153 : decode cX49_root 153 = .ok (.aload_n 0, 1) := dk_42 (dk_at dksX49_root_6 12 rfl rfl)
theorem dX49_root_154 : decode cX49_root 154 = .ok (.getfield 57, 3) := dk_180 0 57 (dk_at dksX49_root_6 13 rfl rfl)
theorem dX49_root_157 : decode cX49_root 157 = .ok (.iload_n 2, 1) := dk_28 (dk_at dksX49_root_6 16 rfl rfl)
theorem dX49_root_158 : decode cX49_root 158 = .ok (.baload, 1) := dk_51 (dk_at dksX49_root_6 17 rfl rfl)
theorem dX49_root_159 : decode cX49_root 159 = .ok (.sipush 255, 3) := dk_17 0 255 (dk_at dksX49_root_6 18 rfl rfl)
theorem dX49_root_162 : decode cX49_root 162 = .ok (.iand, 1) := dk_126 (dk_at dksX49_root_6 21 rfl rfl)
theorem dX49_root_163 : decode cX49_root 163 = .ok (.ireturn, 1) := dk_172 (dk_at dksX49_root_6 22 rfl rfl)
abbrev cX49_pair : ByteArray := prog_65_method_39_code
def yX49_pair : MethodName := ⟨RX49, "pair", "(IIZ)V"⟩
def dkwX49_pair_5 : List UInt8 := [132, 4, 1, 167, 255, 227, 177]
abbrev dktX49_pair_5 : List UInt8 := dkwX49_pair_5 ++ []
def dkwX49_pair_4 : List UInt8 := [162, 0, 28, 42, 180, 0, 57, 16, 32, 28, 104, 21, 4, 96, 42, 180, 0, 45, 21, 4, 51, 84]
abbrev dktX49_pair_4 : List UInt8 := dkwX49_pair_4 ++ dktX49_pair_5
def dkwX49_pair_3 : List UInt8 := [96, 51, 182, 0, 84, 132, 4, 1, 167, 255, 230, 42, 182, 0, 95, 3, 54, 4, 21, 4, 16, 32]
abbrev dktX49_pair_3 : List UInt8 := dkwX49_pair_3 ++ dktX49_pair_4
def dkwX49_pair_2 : List UInt8 := [181, 0, 81, 3, 54, 4, 21, 4, 16, 64, 162, 0, 25, 42, 42, 180, 0, 57, 16, 32, 27, 104, 21, 4]
abbrev dktX49_pair_2 : List UInt8 := dkwX49_pair_2 ++ dktX49_pair_3
def dkwX49_pair_1 : List UInt8 := [96, 42, 180, 0, 57, 16, 32, 27, 104, 21, 4, 96, 51, 84, 132, 4, 1, 167, 255, 222, 177, 42, 3]
abbrev dktX49_pair_1 : List UInt8 := dkwX49_pair_1 ++ dktX49_pair_2
def dkwX49_pair_0 : List UInt8 := [29, 154, 0, 44, 3, 54, 4, 21, 4, 16, 32, 162, 0, 33, 42, 180, 0, 57, 16, 32, 28, 104, 21, 4]
abbrev dktX49_pair_0 : List UInt8 := dkwX49_pair_0 ++ dktX49_pair_1
theorem dksX49_pair_0 : cX49_pair.data.toList.drop 0 = dktX49_pair_0 := by decide +kernel
theorem dksX49_pair_1 : cX49_pair.data.toList.drop 24 = dktX49_pair_1 := dk_seg dksX49_pair_0 24 rfl rfl
theorem dksX49_pair_2 : cX49_pair.data.toList.drop 47 = dktX49_pair_2 := dk_seg dksX49_pair_1 23 rfl rfl
theorem dksX49_pair_3 : cX49_pair.data.toList.drop 71 = dktX49_pair_3 := dk_seg dksX49_pair_2 24 rfl rfl
theorem dksX49_pair_4 : cX49_pair.data.toList.drop 93 = dktX49_pair_4 := dk_seg dksX49_pair_3 22 rfl rfl
theorem dksX49_pair_5 : cX49_pair.data.toList.drop 115 = dktX49_pair_5 := dk_seg dksX49_pair_4 22 rfl rfl
theorem dX49_pair_0 : decode cX49_pair 0 = .ok (.iload_n 3, 1) := dk_29 (dk_at dksX49_pair_0 0 rfl rfl)
theorem dX49_pair_1 : decode cX49_pair 1 = .ok (.ifCond .ne 44, 3) := dk_154 0 44 (dk_at dksX49_pair_0 1 rfl rfl)
theorem dX49_pair_4 : decode cX49_pair 4 = .ok (.iconst 0, 1) := dk_3 (dk_at dksX49_pair_0 4 rfl rfl)
theorem dX49_pair_5 : decode cX49_pair 5 = .ok (.istore 4, 2) := dk_54 4 (dk_at dksX49_pair_0 5 rfl rfl)
theorem dX49_pair_7 : decode cX49_pair 7 = .ok (.iload 4, 2) := dk_21 4 (dk_at dksX49_pair_0 7 rfl rfl)
theorem dX49_pair_9 : decode cX49_pair 9 = .ok (.bipush 32, 2) := dk_16 32 (dk_at dksX49_pair_0 9 rfl rfl)
theorem dX49_pair_11 : decode cX49_pair 11 = .ok (.if_icmp .ge 33, 3) := dk_162 0 33 (dk_at dksX49_pair_0 11 rfl rfl)
theorem dX49_pair_14 : decode cX49_pair 14 = .ok (.aload_n 0, 1) := dk_42 (dk_at dksX49_pair_0 14 rfl rfl)
theorem dX49_pair_15 : decode cX49_pair 15 = .ok (.getfield 57, 3) := dk_180 0 57 (dk_at dksX49_pair_0 15 rfl rfl)
theorem dX49_pair_18 : decode cX49_pair 18 = .ok (.bipush 32, 2) := dk_16 32 (dk_at dksX49_pair_0 18 rfl rfl)
theorem dX49_pair_20 : decode cX49_pair 20 = .ok (.iload_n 2, 1) := dk_28 (dk_at dksX49_pair_0 20 rfl rfl)
theorem dX49_pair_21 : decode cX49_pair 21 = .ok (.imul, 1) := dk_104 (dk_at dksX49_pair_0 21 rfl rfl)
theorem dX49_pair_22 : decode cX49_pair 22 = .ok (.iload 4, 2) := dk_21 4 (dk_at dksX49_pair_0 22 rfl rfl)
theorem dX49_pair_24 : decode cX49_pair 24 = .ok (.iadd, 1) := dk_96 (dk_at dksX49_pair_1 0 rfl rfl)
theorem dX49_pair_25 : decode cX49_pair 25 = .ok (.aload_n 0, 1) := dk_42 (dk_at dksX49_pair_1 1 rfl rfl)
theorem dX49_pair_26 : decode cX49_pair 26 = .ok (.getfield 57, 3) := dk_180 0 57 (dk_at dksX49_pair_1 2 rfl rfl)
theorem dX49_pair_29 : decode cX49_pair 29 = .ok (.bipush 32, 2) := dk_16 32 (dk_at dksX49_pair_1 5 rfl rfl)
theorem dX49_pair_31 : decode cX49_pair 31 = .ok (.iload_n 1, 1) := dk_27 (dk_at dksX49_pair_1 7 rfl rfl)
theorem dX49_pair_32 : decode cX49_pair 32 = .ok (.imul, 1) := dk_104 (dk_at dksX49_pair_1 8 rfl rfl)
theorem dX49_pair_33 : decode cX49_pair 33 = .ok (.iload 4, 2) := dk_21 4 (dk_at dksX49_pair_1 9 rfl rfl)
theorem dX49_pair_35 : decode cX49_pair 35 = .ok (.iadd, 1) := dk_96 (dk_at dksX49_pair_1 11 rfl rfl)
theorem dX49_pair_36 : decode cX49_pair 36 = .ok (.baload, 1) := dk_51 (dk_at dksX49_pair_1 12 rfl rfl)
theorem dX49_pair_37 : decode cX49_pair 37 = .ok (.bastore, 1) := dk_84 (dk_at dksX49_pair_1 13 rfl rfl)
theorem dX49_pair_38 : decode cX49_pair 38 = .ok (.iinc 4 1, 3) := dk_132 4 1 (dk_at dksX49_pair_1 14 rfl rfl)
theorem dX49_pair_41 : decode cX49_pair 41 = .ok (.goto (-34), 3) := dk_167 255 222 (dk_at dksX49_pair_1 17 rfl rfl)
theorem dX49_pair_44 : decode cX49_pair 44 = .ok (.return_, 1) := dk_177 (dk_at dksX49_pair_1 20 rfl rfl)
theorem dX49_pair_45 : decode cX49_pair 45 = .ok (.aload_n 0, 1) := dk_42 (dk_at dksX49_pair_1 21 rfl rfl)
theorem dX49_pair_46 : decode cX49_pair 46 = .ok (.iconst 0, 1) := dk_3 (dk_at dksX49_pair_1 22 rfl rfl)
theorem dX49_pair_47 : decode cX49_pair 47 = .ok (.putfield 81, 3) := dk_181 0 81 (dk_at dksX49_pair_2 0 rfl rfl)
theorem dX49_pair_50 : decode cX49_pair 50 = .ok (.iconst 0, 1) := dk_3 (dk_at dksX49_pair_2 3 rfl rfl)
theorem dX49_pair_51 : decode cX49_pair 51 = .ok (.istore 4, 2) := dk_54 4 (dk_at dksX49_pair_2 4 rfl rfl)
theorem dX49_pair_53 : decode cX49_pair 53 = .ok (.iload 4, 2) := dk_21 4 (dk_at dksX49_pair_2 6 rfl rfl)
theorem dX49_pair_55 : decode cX49_pair 55 = .ok (.bipush 64, 2) := dk_16 64 (dk_at dksX49_pair_2 8 rfl rfl)
theorem dX49_pair_57 : decode cX49_pair 57 = .ok (.if_icmp .ge 25, 3) := dk_162 0 25 (dk_at dksX49_pair_2 10 rfl rfl)
theorem dX49_pair_60 : decode cX49_pair 60 = .ok (.aload_n 0, 1) := dk_42 (dk_at dksX49_pair_2 13 rfl rfl)
theorem dX49_pair_61 : decode cX49_pair 61 = .ok (.aload_n 0, 1) := dk_42 (dk_at dksX49_pair_2 14 rfl rfl)
theorem dX49_pair_62 : decode cX49_pair 62 = .ok (.getfield 57, 3) := dk_180 0 57 (dk_at dksX49_pair_2 15 rfl rfl)
theorem dX49_pair_65 : decode cX49_pair 65 = .ok (.bipush 32, 2) := dk_16 32 (dk_at dksX49_pair_2 18 rfl rfl)
theorem dX49_pair_67 : decode cX49_pair 67 = .ok (.iload_n 1, 1) := dk_27 (dk_at dksX49_pair_2 20 rfl rfl)
theorem dX49_pair_68 : decode cX49_pair 68 = .ok (.imul, 1) := dk_104 (dk_at dksX49_pair_2 21 rfl rfl)
theorem dX49_pair_69 : decode cX49_pair 69 = .ok (.iload 4, 2) := dk_21 4 (dk_at dksX49_pair_2 22 rfl rfl)
theorem dX49_pair_71 : decode cX49_pair 71 = .ok (.iadd, 1) := dk_96 (dk_at dksX49_pair_3 0 rfl rfl)
theorem dX49_pair_72 : decode cX49_pair 72 = .ok (.baload, 1) := dk_51 (dk_at dksX49_pair_3 1 rfl rfl)
theorem dX49_pair_73 : decode cX49_pair 73 = .ok (.invokevirtual 84, 3) := dk_182 0 84 (dk_at dksX49_pair_3 2 rfl rfl)
theorem dX49_pair_76 : decode cX49_pair 76 = .ok (.iinc 4 1, 3) := dk_132 4 1 (dk_at dksX49_pair_3 5 rfl rfl)
theorem dX49_pair_79 : decode cX49_pair 79 = .ok (.goto (-26), 3) := dk_167 255 230 (dk_at dksX49_pair_3 8 rfl rfl)
theorem dX49_pair_82 : decode cX49_pair 82 = .ok (.aload_n 0, 1) := dk_42 (dk_at dksX49_pair_3 11 rfl rfl)
theorem dX49_pair_83 : decode cX49_pair 83 = .ok (.invokevirtual 95, 3) := dk_182 0 95 (dk_at dksX49_pair_3 12 rfl rfl)
theorem dX49_pair_86 : decode cX49_pair 86 = .ok (.iconst 0, 1) := dk_3 (dk_at dksX49_pair_3 15 rfl rfl)
theorem dX49_pair_87 : decode cX49_pair 87 = .ok (.istore 4, 2) := dk_54 4 (dk_at dksX49_pair_3 16 rfl rfl)
theorem dX49_pair_89 : decode cX49_pair 89 = .ok (.iload 4, 2) := dk_21 4 (dk_at dksX49_pair_3 18 rfl rfl)
theorem dX49_pair_91 : decode cX49_pair 91 = .ok (.bipush 32, 2) := dk_16 32 (dk_at dksX49_pair_3 20 rfl rfl)
theorem dX49_pair_93 : decode cX49_pair 93 = .ok (.if_icmp .ge 28, 3) := dk_162 0 28 (dk_at dksX49_pair_4 0 rfl rfl)
theorem dX49_pair_96 : decode cX49_pair 96 = .ok (.aload_n 0, 1) := dk_42 (dk_at dksX49_pair_4 3 rfl rfl)
theorem dX49_pair_97 : decode cX49_pair 97 = .ok (.getfield 57, 3) := dk_180 0 57 (dk_at dksX49_pair_4 4 rfl rfl)
theorem dX49_pair_100 : decode cX49_pair 100 = .ok (.bipush 32, 2) := dk_16 32 (dk_at dksX49_pair_4 7 rfl rfl)
theorem dX49_pair_102 : decode cX49_pair 102 = .ok (.iload_n 2, 1) := dk_28 (dk_at dksX49_pair_4 9 rfl rfl)
theorem dX49_pair_103 : decode cX49_pair 103 = .ok (.imul, 1) := dk_104 (dk_at dksX49_pair_4 10 rfl rfl)
theorem dX49_pair_104 : decode cX49_pair 104 = .ok (.iload 4, 2) := dk_21 4 (dk_at dksX49_pair_4 11 rfl rfl)
theorem dX49_pair_106 : decode cX49_pair 106 = .ok (.iadd, 1) := dk_96 (dk_at dksX49_pair_4 13 rfl rfl)
theorem dX49_pair_107 : decode cX49_pair 107 = .ok (.aload_n 0, 1) := dk_42 (dk_at dksX49_pair_4 14 rfl rfl)
theorem dX49_pair_108 : decode cX49_pair 108 = .ok (.getfield 45, 3) := dk_180 0 45 (dk_at dksX49_pair_4 15 rfl rfl)
theorem dX49_pair_111 : decode cX49_pair 111 = .ok (.iload 4, 2) := dk_21 4 (dk_at dksX49_pair_4 18 rfl rfl)
theorem dX49_pair_113 : decode cX49_pair 113 = .ok (.baload, 1) := dk_51 (dk_at dksX49_pair_4 20 rfl rfl)
theorem dX49_pair_114 : decode cX49_pair 114 = .ok (.bastore, 1) := dk_84 (dk_at dksX49_pair_4 21 rfl rfl)
theorem dX49_pair_115 : decode cX49_pair 115 = .ok (.iinc 4 1, 3) := dk_132 4 1 (dk_at dksX49_pair_5 0 rfl rfl)
theorem dX49_pair_118 : decode cX49_pair 118 = .ok (.goto (-29), 3) := dk_167 255 227 (dk_at dksX49_pair_5 3 rfl rfl)
theorem dX49_pair_121 : decode cX49_pair 121 = .ok (.return_, 1) := dk_177 (dk_at dksX49_pair_5 6 rfl rfl)
abbrev cX49_thrown : ByteArray := prog_65_method_2_code
def yX49_thrown : MethodName := ⟨RX49, "thrown", "()I"⟩
theorem dX49_thrown_0 : decode cX49_thrown 0 = .ok (.aload_n 0, 1) := by decide +kernel
theorem dX49_thrown_1 : decode cX49_thrown 1 = .ok (.getfield 67, 3) := by decide +kernel
theorem dX49_thrown_4 : decode cX49_thrown 4 = .ok (.ireturn, 1) := by decide +kernel
theorem q455 : (Jvm.Cond.initialized "WasteHouseModel$TicketChainModel") ∈ lw_all := lw_g (lw_at lw_m1 63 rfl) rfl
theorem q2033 : (Jvm.Cond.selects "WasteHouseModel$TicketChainModel" ({ cls := "java/lang/Object", name := "getClass", desc := "()Ljava/lang/Class;" } : Jvm.MethodName) ({ cls := "java/lang/Object", name := "getClass", desc := "()Ljava/lang/Class;" } : Jvm.MethodName)) ∈ lw_all := lw_g (lw_at lw_m7 201 rfl) rfl
theorem q3143 : (Jvm.Cond.selects "WasteHouseModel$TicketChainModel" ({ cls := "java/lang/Object", name := "equals", desc := "(Ljava/lang/Object;)Z" } : Jvm.MethodName) ({ cls := "java/lang/Object", name := "equals", desc := "(Ljava/lang/Object;)Z" } : Jvm.MethodName)) ∈ lw_all := lw_g (lw_at lw_m12 111 rfl) rfl
theorem q3661 : (Jvm.Cond.selects "WasteHouseModel$TicketChainModel" ({ cls := "java/lang/Object", name := "hashCode", desc := "()I" } : Jvm.MethodName) ({ cls := "java/lang/Object", name := "hashCode", desc := "()I" } : Jvm.MethodName)) ∈ lw_all := lw_g (lw_at lw_m14 149 rfl) rfl
theorem q6674 : (Jvm.Cond.instantiable "WasteHouseModel$TicketChainModel" (25 : Nat)) ∈ lw_all := lw_g (lw_at lw_m27 42 rfl) rfl
theorem q6676 : (Jvm.Cond.instanceMethod ({ cls := "WasteHouseModel$TicketChainModel", name := "<init>", desc := "()V" } : Jvm.MethodName)) ∈ lw_all := lw_g (lw_at lw_m27 44 rfl) rfl
theorem q6677 : (Jvm.Cond.code ({ cls := "WasteHouseModel$TicketChainModel", name := "<init>", desc := "()V" } : Jvm.MethodName) prog_65_method_1_code (5 : Nat) (Option.none : Option Jvm.ClassFile.FieldType)) ∈ lw_all := lw_g (lw_at lw_m27 45 rfl) rfl
theorem q6678 : (Jvm.Cond.methodLink "WasteHouseModel$TicketChainModel" (1 : Nat) ({ cls := "java/lang/Object", name := "<init>", desc := "()V" } : Jvm.MethodName)) ∈ lw_all := lw_g (lw_at lw_m27 46 rfl) rfl
theorem q6679 : (Jvm.Cond.methodLink "WasteHouseModel$TicketChainModel" (63 : Nat) ({ cls := "WasteHouseModel$TicketChainModel", name := "rootOf", desc := "(IZ)I" } : Jvm.MethodName)) ∈ lw_all := lw_g (lw_at lw_m27 47 rfl) rfl
theorem q6680 : (Jvm.Cond.static ({ cls := "WasteHouseModel$TicketChainModel", name := "rootOf", desc := "(IZ)I" } : Jvm.MethodName)) ∈ lw_all := lw_g (lw_at lw_m27 48 rfl) rfl
theorem q6681 : (Jvm.Cond.code ({ cls := "WasteHouseModel$TicketChainModel", name := "rootOf", desc := "(IZ)I" } : Jvm.MethodName) prog_65_method_4_code (8 : Nat) (Option.some Jvm.ClassFile.FieldType.int)) ∈ lw_all := lw_g (lw_at lw_m27 49 rfl) rfl
theorem q6682 : (Jvm.Cond.constantLong "WasteHouseModel$TicketChainModel" (75 : Nat) (68719476736 : Int64)) ∈ lw_all := lw_g (lw_at lw_m27 50 rfl) rfl
theorem q6683 : (Jvm.Cond.constantLong "WasteHouseModel$TicketChainModel" (73 : Nat) (2 : Int64)) ∈ lw_all := lw_g (lw_at lw_m27 51 rfl) rfl
theorem q6684 : (Jvm.Cond.methodLink "WasteHouseModel$TicketChainModel" (77 : Nat) ({ cls := "WasteHouseModel$TicketChainModel", name := "isAtMost", desc := "(JIZ)Z" } : Jvm.MethodName)) ∈ lw_all := lw_g (lw_at lw_m27 52 rfl) rfl
theorem q6685 : (Jvm.Cond.static ({ cls := "WasteHouseModel$TicketChainModel", name := "isAtMost", desc := "(JIZ)Z" } : Jvm.MethodName)) ∈ lw_all := lw_g (lw_at lw_m27 53 rfl) rfl
theorem q6686 : (Jvm.Cond.code ({ cls := "WasteHouseModel$TicketChainModel", name := "isAtMost", desc := "(JIZ)Z" } : Jvm.MethodName) prog_65_method_3_code (24 : Nat) (Option.some Jvm.ClassFile.FieldType.boolean)) ∈ lw_all := lw_g (lw_at lw_m27 54 rfl) rfl
theorem q6687 : (Jvm.Cond.constantLong "WasteHouseModel$TicketChainModel" (71 : Nat) (262143 : Int64)) ∈ lw_all := lw_g (lw_at lw_m27 55 rfl) rfl
theorem q6688 : (Jvm.Cond.fieldLink "WasteHouseModel$TicketChainModel" (7 : Nat) "WasteHouseModel$TicketChainModel" "cubes" "[I") ∈ lw_all := lw_g (lw_at lw_m27 56 rfl) rfl
theorem q6689 : (Jvm.Cond.fieldLink "WasteHouseModel$TicketChainModel" (13 : Nat) "WasteHouseModel$TicketChainModel" "squares" "[I") ∈ lw_all := lw_g (lw_at lw_m27 57 rfl) rfl
theorem q6690 : (Jvm.Cond.fieldLink "WasteHouseModel$TicketChainModel" (16 : Nat) "WasteHouseModel$TicketChainModel" "toldDay" "[I") ∈ lw_all := lw_g (lw_at lw_m27 58 rfl) rfl
theorem q6691 : (Jvm.Cond.fieldLink "WasteHouseModel$TicketChainModel" (19 : Nat) "WasteHouseModel$TicketChainModel" "toldVehicle" "[I") ∈ lw_all := lw_g (lw_at lw_m27 59 rfl) rfl
theorem q6692 : (Jvm.Cond.fieldLink "WasteHouseModel$TicketChainModel" (22 : Nat) "WasteHouseModel$TicketChainModel" "toldTare" "[I") ∈ lw_all := lw_g (lw_at lw_m27 60 rfl) rfl
theorem q6693 : (Jvm.Cond.fieldLink "WasteHouseModel$TicketChainModel" (133 : Nat) "WasteHouseModel$TicketChainModel" "toldCount" "I") ∈ lw_all := lw_g (lw_at lw_m27 61 rfl) rfl
theorem q6694 : (Jvm.Cond.fieldLink "WasteHouseModel$TicketChainModel" (25 : Nat) "WasteHouseModel$TicketChainModel" "fields" "[J") ∈ lw_all := lw_g (lw_at lw_m27 62 rfl) rfl
theorem q6695 : (Jvm.Cond.fieldLink "WasteHouseModel$TicketChainModel" (29 : Nat) "WasteHouseModel$TicketChainModel" "weights" "[I") ∈ lw_all := lw_g (lw_at lw_m27 63 rfl) rfl
theorem q6696 : (Jvm.Cond.fieldLink "WasteHouseModel$TicketChainModel" (112 : Nat) "WasteHouseModel$TicketChainModel" "tickets" "I") ∈ lw_all := lw_g (lw_at lw_m27 64 rfl) rfl
theorem q6697 : (Jvm.Cond.fieldLink "WasteHouseModel$TicketChainModel" (146 : Nat) "WasteHouseModel$TicketChainModel" "numbers" "I") ∈ lw_all := lw_g (lw_at lw_m27 65 rfl) rfl
theorem q6698 : (Jvm.Cond.fieldLink "WasteHouseModel$TicketChainModel" (32 : Nat) "WasteHouseModel$TicketChainModel" "gaps" "[I") ∈ lw_all := lw_g (lw_at lw_m27 66 rfl) rfl
theorem q6699 : (Jvm.Cond.fieldLink "WasteHouseModel$TicketChainModel" (149 : Nat) "WasteHouseModel$TicketChainModel" "gapCount" "I") ∈ lw_all := lw_g (lw_at lw_m27 67 rfl) rfl
theorem q6700 : (Jvm.Cond.fieldLink "WasteHouseModel$TicketChainModel" (35 : Nat) "WasteHouseModel$TicketChainModel" "bytes" "[B") ∈ lw_all := lw_g (lw_at lw_m27 68 rfl) rfl
theorem q6701 : (Jvm.Cond.fieldLink "WasteHouseModel$TicketChainModel" (39 : Nat) "WasteHouseModel$TicketChainModel" "rowDay" "[I") ∈ lw_all := lw_g (lw_at lw_m27 69 rfl) rfl
theorem q6702 : (Jvm.Cond.fieldLink "WasteHouseModel$TicketChainModel" (98 : Nat) "WasteHouseModel$TicketChainModel" "rowCount" "I") ∈ lw_all := lw_g (lw_at lw_m27 70 rfl) rfl
theorem q6703 : (Jvm.Cond.fieldLink "WasteHouseModel$TicketChainModel" (67 : Nat) "WasteHouseModel$TicketChainModel" "fault" "I") ∈ lw_all := lw_g (lw_at lw_m27 71 rfl) rfl
theorem q6704 : (Jvm.Cond.fieldLink "WasteHouseModel$TicketChainModel" (42 : Nat) "WasteHouseModel$TicketChainModel" "row" "[B") ∈ lw_all := lw_g (lw_at lw_m27 72 rfl) rfl
theorem q6705 : (Jvm.Cond.fieldLink "WasteHouseModel$TicketChainModel" (81 : Nat) "WasteHouseModel$TicketChainModel" "rowSize" "I") ∈ lw_all := lw_g (lw_at lw_m27 73 rfl) rfl
theorem q6706 : (Jvm.Cond.fieldLink "WasteHouseModel$TicketChainModel" (45 : Nat) "WasteHouseModel$TicketChainModel" "result" "[B") ∈ lw_all := lw_g (lw_at lw_m27 74 rfl) rfl
theorem q6707 : (Jvm.Cond.fieldLink "WasteHouseModel$TicketChainModel" (48 : Nat) "WasteHouseModel$TicketChainModel" "state" "[I") ∈ lw_all := lw_g (lw_at lw_m27 75 rfl) rfl
theorem q6708 : (Jvm.Cond.fieldLink "WasteHouseModel$TicketChainModel" (51 : Nat) "WasteHouseModel$TicketChainModel" "now" "[I") ∈ lw_all := lw_g (lw_at lw_m27 76 rfl) rfl
theorem q6709 : (Jvm.Cond.fieldLink "WasteHouseModel$TicketChainModel" (54 : Nat) "WasteHouseModel$TicketChainModel" "words" "[I") ∈ lw_all := lw_g (lw_at lw_m27 77 rfl) rfl
theorem q6710 : (Jvm.Cond.fieldLink "WasteHouseModel$TicketChainModel" (57 : Nat) "WasteHouseModel$TicketChainModel" "level" "[B") ∈ lw_all := lw_g (lw_at lw_m27 78 rfl) rfl
theorem q6711 : (Jvm.Cond.fieldLink "WasteHouseModel$TicketChainModel" (60 : Nat) "WasteHouseModel$TicketChainModel" "form" "[B") ∈ lw_all := lw_g (lw_at lw_m27 79 rfl) rfl
theorem q6712 : (Jvm.Cond.fieldLink "WasteHouseModel$TicketChainModel" (173 : Nat) "WasteHouseModel$TicketChainModel" "formSize" "I") ∈ lw_all := lw_g (lw_at lw_m27 80 rfl) rfl
theorem q6713 : (Jvm.Cond.laysFinal "WasteHouseModel$TicketChainModel" "WasteHouseModel$TicketChainModel" "cubes" "[I") ∈ lw_all := lw_g (lw_at lw_m27 81 rfl) rfl
theorem q6714 : (Jvm.Cond.soleField "WasteHouseModel$TicketChainModel" "cubes") ∈ lw_all := lw_g (lw_at lw_m27 82 rfl) rfl
theorem q6715 : (Jvm.Cond.laysFinal "WasteHouseModel$TicketChainModel" "WasteHouseModel$TicketChainModel" "squares" "[I") ∈ lw_all := lw_g (lw_at lw_m27 83 rfl) rfl
theorem q6716 : (Jvm.Cond.soleField "WasteHouseModel$TicketChainModel" "squares") ∈ lw_all := lw_g (lw_at lw_m27 84 rfl) rfl
theorem q6717 : (Jvm.Cond.laysFinal "WasteHouseModel$TicketChainModel" "WasteHouseModel$TicketChainModel" "toldDay" "[I") ∈ lw_all := lw_g (lw_at lw_m27 85 rfl) rfl
theorem q6718 : (Jvm.Cond.soleField "WasteHouseModel$TicketChainModel" "toldDay") ∈ lw_all := lw_g (lw_at lw_m27 86 rfl) rfl
theorem q6719 : (Jvm.Cond.laysFinal "WasteHouseModel$TicketChainModel" "WasteHouseModel$TicketChainModel" "toldVehicle" "[I") ∈ lw_all := lw_g (lw_at lw_m27 87 rfl) rfl
theorem q6720 : (Jvm.Cond.soleField "WasteHouseModel$TicketChainModel" "toldVehicle") ∈ lw_all := lw_g (lw_at lw_m27 88 rfl) rfl
theorem q6721 : (Jvm.Cond.laysFinal "WasteHouseModel$TicketChainModel" "WasteHouseModel$TicketChainModel" "toldTare" "[I") ∈ lw_all := lw_g (lw_at lw_m27 89 rfl) rfl
theorem q6722 : (Jvm.Cond.soleField "WasteHouseModel$TicketChainModel" "toldTare") ∈ lw_all := lw_g (lw_at lw_m27 90 rfl) rfl
theorem q6723 : (Jvm.Cond.lays "WasteHouseModel$TicketChainModel" "WasteHouseModel$TicketChainModel" "toldCount" "I") ∈ lw_all := lw_g (lw_at lw_m27 91 rfl) rfl
theorem q6724 : (Jvm.Cond.soleField "WasteHouseModel$TicketChainModel" "toldCount") ∈ lw_all := lw_g (lw_at lw_m27 92 rfl) rfl
theorem q6725 : (Jvm.Cond.laysFinal "WasteHouseModel$TicketChainModel" "WasteHouseModel$TicketChainModel" "fields" "[J") ∈ lw_all := lw_g (lw_at lw_m27 93 rfl) rfl
theorem q6726 : (Jvm.Cond.soleField "WasteHouseModel$TicketChainModel" "fields") ∈ lw_all := lw_g (lw_at lw_m27 94 rfl) rfl
theorem q6727 : (Jvm.Cond.laysFinal "WasteHouseModel$TicketChainModel" "WasteHouseModel$TicketChainModel" "weights" "[I") ∈ lw_all := lw_g (lw_at lw_m27 95 rfl) rfl
theorem q6728 : (Jvm.Cond.soleField "WasteHouseModel$TicketChainModel" "weights") ∈ lw_all := lw_g (lw_at lw_m27 96 rfl) rfl
theorem q6729 : (Jvm.Cond.lays "WasteHouseModel$TicketChainModel" "WasteHouseModel$TicketChainModel" "tickets" "I") ∈ lw_all := lw_g (lw_at lw_m27 97 rfl) rfl
theorem q6730 : (Jvm.Cond.soleField "WasteHouseModel$TicketChainModel" "tickets") ∈ lw_all := lw_g (lw_at lw_m27 98 rfl) rfl
theorem q6731 : (Jvm.Cond.lays "WasteHouseModel$TicketChainModel" "WasteHouseModel$TicketChainModel" "numbers" "I") ∈ lw_all := lw_g (lw_at lw_m27 99 rfl) rfl
theorem q6732 : (Jvm.Cond.soleField "WasteHouseModel$TicketChainModel" "numbers") ∈ lw_all := lw_g (lw_at lw_m27 100 rfl) rfl
theorem q6733 : (Jvm.Cond.laysFinal "WasteHouseModel$TicketChainModel" "WasteHouseModel$TicketChainModel" "gaps" "[I") ∈ lw_all := lw_g (lw_at lw_m27 101 rfl) rfl
theorem q6734 : (Jvm.Cond.soleField "WasteHouseModel$TicketChainModel" "gaps") ∈ lw_all := lw_g (lw_at lw_m27 102 rfl) rfl
theorem q6735 : (Jvm.Cond.lays "WasteHouseModel$TicketChainModel" "WasteHouseModel$TicketChainModel" "gapCount" "I") ∈ lw_all := lw_g (lw_at lw_m27 103 rfl) rfl
theorem q6736 : (Jvm.Cond.soleField "WasteHouseModel$TicketChainModel" "gapCount") ∈ lw_all := lw_g (lw_at lw_m27 104 rfl) rfl
theorem q6737 : (Jvm.Cond.laysFinal "WasteHouseModel$TicketChainModel" "WasteHouseModel$TicketChainModel" "bytes" "[B") ∈ lw_all := lw_g (lw_at lw_m27 105 rfl) rfl
theorem q6738 : (Jvm.Cond.soleField "WasteHouseModel$TicketChainModel" "bytes") ∈ lw_all := lw_g (lw_at lw_m27 106 rfl) rfl
theorem q6739 : (Jvm.Cond.laysFinal "WasteHouseModel$TicketChainModel" "WasteHouseModel$TicketChainModel" "rowDay" "[I") ∈ lw_all := lw_g (lw_at lw_m27 107 rfl) rfl
theorem q6740 : (Jvm.Cond.soleField "WasteHouseModel$TicketChainModel" "rowDay") ∈ lw_all := lw_g (lw_at lw_m27 108 rfl) rfl
theorem q6741 : (Jvm.Cond.lays "WasteHouseModel$TicketChainModel" "WasteHouseModel$TicketChainModel" "rowCount" "I") ∈ lw_all := lw_g (lw_at lw_m27 109 rfl) rfl
theorem q6742 : (Jvm.Cond.soleField "WasteHouseModel$TicketChainModel" "rowCount") ∈ lw_all := lw_g (lw_at lw_m27 110 rfl) rfl
theorem q6743 : (Jvm.Cond.lays "WasteHouseModel$TicketChainModel" "WasteHouseModel$TicketChainModel" "fault" "I") ∈ lw_all := lw_g (lw_at lw_m27 111 rfl) rfl
theorem q6744 : (Jvm.Cond.soleField "WasteHouseModel$TicketChainModel" "fault") ∈ lw_all := lw_g (lw_at lw_m27 112 rfl) rfl
theorem q6745 : (Jvm.Cond.laysFinal "WasteHouseModel$TicketChainModel" "WasteHouseModel$TicketChainModel" "row" "[B") ∈ lw_all := lw_g (lw_at lw_m27 113 rfl) rfl
theorem q6746 : (Jvm.Cond.soleField "WasteHouseModel$TicketChainModel" "row") ∈ lw_all := lw_g (lw_at lw_m27 114 rfl) rfl
theorem q6747 : (Jvm.Cond.lays "WasteHouseModel$TicketChainModel" "WasteHouseModel$TicketChainModel" "rowSize" "I") ∈ lw_all := lw_g (lw_at lw_m27 115 rfl) rfl
theorem q6748 : (Jvm.Cond.soleField "WasteHouseModel$TicketChainModel" "rowSize") ∈ lw_all := lw_g (lw_at lw_m27 116 rfl) rfl
theorem q6749 : (Jvm.Cond.laysFinal "WasteHouseModel$TicketChainModel" "WasteHouseModel$TicketChainModel" "result" "[B") ∈ lw_all := lw_g (lw_at lw_m27 117 rfl) rfl
theorem q6750 : (Jvm.Cond.soleField "WasteHouseModel$TicketChainModel" "result") ∈ lw_all := lw_g (lw_at lw_m27 118 rfl) rfl
theorem q6751 : (Jvm.Cond.laysFinal "WasteHouseModel$TicketChainModel" "WasteHouseModel$TicketChainModel" "state" "[I") ∈ lw_all := lw_g (lw_at lw_m27 119 rfl) rfl
theorem q6752 : (Jvm.Cond.soleField "WasteHouseModel$TicketChainModel" "state") ∈ lw_all := lw_g (lw_at lw_m27 120 rfl) rfl
theorem q6753 : (Jvm.Cond.laysFinal "WasteHouseModel$TicketChainModel" "WasteHouseModel$TicketChainModel" "now" "[I") ∈ lw_all := lw_g (lw_at lw_m27 121 rfl) rfl
theorem q6754 : (Jvm.Cond.soleField "WasteHouseModel$TicketChainModel" "now") ∈ lw_all := lw_g (lw_at lw_m27 122 rfl) rfl
theorem q6755 : (Jvm.Cond.laysFinal "WasteHouseModel$TicketChainModel" "WasteHouseModel$TicketChainModel" "words" "[I") ∈ lw_all := lw_g (lw_at lw_m27 123 rfl) rfl
theorem q6756 : (Jvm.Cond.soleField "WasteHouseModel$TicketChainModel" "words") ∈ lw_all := lw_g (lw_at lw_m27 124 rfl) rfl
theorem q6757 : (Jvm.Cond.laysFinal "WasteHouseModel$TicketChainModel" "WasteHouseModel$TicketChainModel" "level" "[B") ∈ lw_all := lw_g (lw_at lw_m27 125 rfl) rfl
theorem q6758 : (Jvm.Cond.soleField "WasteHouseModel$TicketChainModel" "level") ∈ lw_all := lw_g (lw_at lw_m27 126 rfl) rfl
theorem q6759 : (Jvm.Cond.laysFinal "WasteHouseModel$TicketChainModel" "WasteHouseModel$TicketChainModel" "form" "[B") ∈ lw_all := lw_g (lw_at lw_m27 127 rfl) rfl
theorem q6760 : (Jvm.Cond.soleField "WasteHouseModel$TicketChainModel" "form") ∈ lw_all := lw_g (lw_at lw_m27 128 rfl) rfl
theorem q6761 : (Jvm.Cond.lays "WasteHouseModel$TicketChainModel" "WasteHouseModel$TicketChainModel" "formSize" "I") ∈ lw_all := lw_g (lw_at lw_m27 129 rfl) rfl
theorem q6762 : (Jvm.Cond.soleField "WasteHouseModel$TicketChainModel" "formSize") ∈ lw_all := lw_g (lw_at lw_m27 130 rfl) rfl
theorem q6763 : (Jvm.Cond.superclass "WasteHouseModel$TicketChainModel" "java/lang/Object") ∈ lw_all := lw_g (lw_at lw_m27 131 rfl) rfl
theorem q7677 : (Jvm.Cond.privateMethod ({ cls := "WasteHouseModel$TicketChainModel", name := "tareOf", desc := "(II)J" } : Jvm.MethodName)) ∈ lw_tbl := lw_at lw_m31 85 rfl
theorem q7678 : (Jvm.Cond.instanceMethod ({ cls := "WasteHouseModel$TicketChainModel", name := "tareOf", desc := "(II)J" } : Jvm.MethodName)) ∈ lw_all := lw_g (lw_at lw_m31 86 rfl) rfl
theorem q7679 : (Jvm.Cond.code ({ cls := "WasteHouseModel$TicketChainModel", name := "tareOf", desc := "(II)J" } : Jvm.MethodName) prog_65_method_18_code (6 : Nat) (Option.some Jvm.ClassFile.FieldType.long)) ∈ lw_all := lw_g (lw_at lw_m31 87 rfl) rfl
theorem q7680 : (Jvm.Cond.constantLong "WasteHouseModel$TicketChainModel" (136 : Nat) (-1 : Int64)) ∈ lw_all := lw_g (lw_at lw_m31 88 rfl) rfl
theorem q7689 : (Jvm.Cond.instanceMethod ({ cls := "WasteHouseModel$TicketChainModel", name := "ticket", desc := "(IIJJJI)I" } : Jvm.MethodName)) ∈ lw_all := lw_g (lw_at lw_m31 97 rfl) rfl
theorem q7690 : (Jvm.Cond.selects "WasteHouseModel$TicketChainModel" ({ cls := "WasteHouseModel$TicketChainModel", name := "ticket", desc := "(IIJJJI)I" } : Jvm.MethodName) ({ cls := "WasteHouseModel$TicketChainModel", name := "ticket", desc := "(IIJJJI)I" } : Jvm.MethodName)) ∈ lw_all := lw_g (lw_at lw_m31 98 rfl) rfl
theorem q7691 : (Jvm.Cond.code ({ cls := "WasteHouseModel$TicketChainModel", name := "ticket", desc := "(IIJJJI)I" } : Jvm.MethodName) prog_65_method_19_code (15 : Nat) (Option.some Jvm.ClassFile.FieldType.int)) ∈ lw_all := lw_g (lw_at lw_m31 99 rfl) rfl
theorem q7692 : (Jvm.Cond.methodLink "WasteHouseModel$TicketChainModel" (138 : Nat) ({ cls := "WasteHouseModel$TicketChainModel", name := "canBe", desc := "(IJ)Z" } : Jvm.MethodName)) ∈ lw_all := lw_g (lw_at lw_m31 100 rfl) rfl
theorem q7693 : (Jvm.Cond.static ({ cls := "WasteHouseModel$TicketChainModel", name := "canBe", desc := "(IJ)Z" } : Jvm.MethodName)) ∈ lw_all := lw_g (lw_at lw_m31 101 rfl) rfl
theorem q7694 : (Jvm.Cond.code ({ cls := "WasteHouseModel$TicketChainModel", name := "canBe", desc := "(IJ)Z" } : Jvm.MethodName) prog_65_method_16_code (3 : Nat) (Option.some Jvm.ClassFile.FieldType.boolean)) ∈ lw_all := lw_g (lw_at lw_m31 102 rfl) rfl
theorem q7695 : (Jvm.Cond.constantLong "WasteHouseModel$TicketChainModel" (117 : Nat) (99 : Int64)) ∈ lw_all := lw_g (lw_at lw_m31 103 rfl) rfl
theorem q7696 : (Jvm.Cond.methodLink "WasteHouseModel$TicketChainModel" (119 : Nat) ({ cls := "WasteHouseModel$TicketChainModel", name := "isIn", desc := "(JJ)Z" } : Jvm.MethodName)) ∈ lw_all := lw_g (lw_at lw_m31 104 rfl) rfl
theorem q7697 : (Jvm.Cond.static ({ cls := "WasteHouseModel$TicketChainModel", name := "isIn", desc := "(JJ)Z" } : Jvm.MethodName)) ∈ lw_all := lw_g (lw_at lw_m31 105 rfl) rfl
theorem q7698 : (Jvm.Cond.code ({ cls := "WasteHouseModel$TicketChainModel", name := "isIn", desc := "(JJ)Z" } : Jvm.MethodName) prog_65_method_13_code (4 : Nat) (Option.some Jvm.ClassFile.FieldType.boolean)) ∈ lw_all := lw_g (lw_at lw_m31 106 rfl) rfl
theorem q7699 : (Jvm.Cond.constantLong "WasteHouseModel$TicketChainModel" (123 : Nat) (9 : Int64)) ∈ lw_all := lw_g (lw_at lw_m31 107 rfl) rfl
theorem q7700 : (Jvm.Cond.constantLong "WasteHouseModel$TicketChainModel" (125 : Nat) (1000000000 : Int64)) ∈ lw_all := lw_g (lw_at lw_m31 108 rfl) rfl
theorem q7701 : (Jvm.Cond.constantLong "WasteHouseModel$TicketChainModel" (127 : Nat) (8000000000 : Int64)) ∈ lw_all := lw_g (lw_at lw_m31 109 rfl) rfl
theorem q7702 : (Jvm.Cond.constantLong "WasteHouseModel$TicketChainModel" (129 : Nat) (999 : Int64)) ∈ lw_all := lw_g (lw_at lw_m31 110 rfl) rfl
theorem q7703 : (Jvm.Cond.methodLink "WasteHouseModel$TicketChainModel" (104 : Nat) ({ cls := "WasteHouseModel$TicketChainModel", name := "dayOf", desc := "(J)I" } : Jvm.MethodName)) ∈ lw_all := lw_g (lw_at lw_m31 111 rfl) rfl
theorem q7704 : (Jvm.Cond.static ({ cls := "WasteHouseModel$TicketChainModel", name := "dayOf", desc := "(J)I" } : Jvm.MethodName)) ∈ lw_all := lw_g (lw_at lw_m31 112 rfl) rfl
theorem q7705 : (Jvm.Cond.code ({ cls := "WasteHouseModel$TicketChainModel", name := "dayOf", desc := "(J)I" } : Jvm.MethodName) prog_65_method_15_code (2 : Nat) (Option.some Jvm.ClassFile.FieldType.int)) ∈ lw_all := lw_g (lw_at lw_m31 113 rfl) rfl
theorem q7706 : (Jvm.Cond.constantLong "WasteHouseModel$TicketChainModel" (115 : Nat) (86400 : Int64)) ∈ lw_all := lw_g (lw_at lw_m31 114 rfl) rfl
theorem q7707 : (Jvm.Cond.methodLink "WasteHouseModel$TicketChainModel" (142 : Nat) ({ cls := "WasteHouseModel$TicketChainModel", name := "tareOf", desc := "(II)J" } : Jvm.MethodName)) ∈ lw_all := lw_g (lw_at lw_m31 115 rfl) rfl
theorem q7708 : (Jvm.Cond.methodLink "WasteHouseModel$TicketChainModel" (152 : Nat) ({ cls := "WasteHouseModel$TicketChainModel", name := "open", desc := "(II)I" } : Jvm.MethodName)) ∈ lw_all := lw_g (lw_at lw_m31 116 rfl) rfl
theorem q7709 : (Jvm.Cond.privateMethod ({ cls := "WasteHouseModel$TicketChainModel", name := "open", desc := "(II)I" } : Jvm.MethodName)) ∈ lw_tbl := lw_at lw_m31 117 rfl
theorem q7710 : (Jvm.Cond.instanceMethod ({ cls := "WasteHouseModel$TicketChainModel", name := "open", desc := "(II)I" } : Jvm.MethodName)) ∈ lw_all := lw_g (lw_at lw_m31 118 rfl) rfl
theorem q7711 : (Jvm.Cond.code ({ cls := "WasteHouseModel$TicketChainModel", name := "open", desc := "(II)I" } : Jvm.MethodName) prog_65_method_12_code (5 : Nat) (Option.some Jvm.ClassFile.FieldType.int)) ∈ lw_all := lw_g (lw_at lw_m31 119 rfl) rfl
theorem q7712 : (Jvm.Cond.methodLink "WasteHouseModel$TicketChainModel" (108 : Nat) ({ cls := "WasteHouseModel$TicketChainModel", name := "write", desc := "(IJI)I" } : Jvm.MethodName)) ∈ lw_all := lw_g (lw_at lw_m31 120 rfl) rfl
theorem q7713 : (Jvm.Cond.privateMethod ({ cls := "WasteHouseModel$TicketChainModel", name := "write", desc := "(IJI)I" } : Jvm.MethodName)) ∈ lw_tbl := lw_at lw_m31 121 rfl
theorem q7714 : (Jvm.Cond.instanceMethod ({ cls := "WasteHouseModel$TicketChainModel", name := "write", desc := "(IJI)I" } : Jvm.MethodName)) ∈ lw_all := lw_g (lw_at lw_m31 122 rfl) rfl
theorem q7715 : (Jvm.Cond.code ({ cls := "WasteHouseModel$TicketChainModel", name := "write", desc := "(IJI)I" } : Jvm.MethodName) prog_65_method_9_code (6 : Nat) (Option.some Jvm.ClassFile.FieldType.int)) ∈ lw_all := lw_g (lw_at lw_m31 123 rfl) rfl
theorem q7716 : (Jvm.Cond.methodLink "WasteHouseModel$TicketChainModel" (155 : Nat) ({ cls := "WasteHouseModel$TicketChainModel", name := "close", desc := "(I)I" } : Jvm.MethodName)) ∈ lw_all := lw_g (lw_at lw_m31 124 rfl) rfl
theorem q7717 : (Jvm.Cond.privateMethod ({ cls := "WasteHouseModel$TicketChainModel", name := "close", desc := "(I)I" } : Jvm.MethodName)) ∈ lw_tbl := lw_at lw_m31 125 rfl
theorem q7718 : (Jvm.Cond.instanceMethod ({ cls := "WasteHouseModel$TicketChainModel", name := "close", desc := "(I)I" } : Jvm.MethodName)) ∈ lw_all := lw_g (lw_at lw_m31 126 rfl) rfl
theorem q7719 : (Jvm.Cond.code ({ cls := "WasteHouseModel$TicketChainModel", name := "close", desc := "(I)I" } : Jvm.MethodName) prog_65_method_11_code (3 : Nat) (Option.some Jvm.ClassFile.FieldType.int)) ∈ lw_all := lw_g (lw_at lw_m31 127 rfl) rfl
theorem q7720 : (Jvm.Cond.methodLink "WasteHouseModel$TicketChainModel" (101 : Nat) ({ cls := "WasteHouseModel$TicketChainModel", name := "digestOf", desc := "(I)V" } : Jvm.MethodName)) ∈ lw_all := lw_g (lw_at lw_m31 128 rfl) rfl
theorem q7721 : (Jvm.Cond.privateMethod ({ cls := "WasteHouseModel$TicketChainModel", name := "digestOf", desc := "(I)V" } : Jvm.MethodName)) ∈ lw_tbl := lw_at lw_m31 129 rfl
theorem q7722 : (Jvm.Cond.instanceMethod ({ cls := "WasteHouseModel$TicketChainModel", name := "digestOf", desc := "(I)V" } : Jvm.MethodName)) ∈ lw_all := lw_g (lw_at lw_m31 130 rfl) rfl
theorem q7723 : (Jvm.Cond.code ({ cls := "WasteHouseModel$TicketChainModel", name := "digestOf", desc := "(I)V" } : Jvm.MethodName) prog_65_method_10_code (3 : Nat) (Option.none : Option Jvm.ClassFile.FieldType)) ∈ lw_all := lw_g (lw_at lw_m31 131 rfl) rfl
theorem q7724 : (Jvm.Cond.methodLink "WasteHouseModel$TicketChainModel" (84 : Nat) ({ cls := "WasteHouseModel$TicketChainModel", name := "lay", desc := "(I)V" } : Jvm.MethodName)) ∈ lw_all := lw_g (lw_at lw_m31 132 rfl) rfl
theorem q7725 : (Jvm.Cond.privateMethod ({ cls := "WasteHouseModel$TicketChainModel", name := "lay", desc := "(I)V" } : Jvm.MethodName)) ∈ lw_tbl := lw_at lw_m31 133 rfl
theorem q7726 : (Jvm.Cond.instanceMethod ({ cls := "WasteHouseModel$TicketChainModel", name := "lay", desc := "(I)V" } : Jvm.MethodName)) ∈ lw_all := lw_g (lw_at lw_m31 134 rfl) rfl
theorem q7727 : (Jvm.Cond.code ({ cls := "WasteHouseModel$TicketChainModel", name := "lay", desc := "(I)V" } : Jvm.MethodName) prog_65_method_6_code (2 : Nat) (Option.none : Option Jvm.ClassFile.FieldType)) ∈ lw_all := lw_g (lw_at lw_m31 135 rfl) rfl
theorem q7728 : (Jvm.Cond.methodLink "WasteHouseModel$TicketChainModel" (95 : Nat) ({ cls := "WasteHouseModel$TicketChainModel", name := "reckon", desc := "()V" } : Jvm.MethodName)) ∈ lw_all := lw_g (lw_at lw_m31 136 rfl) rfl
theorem q7729 : (Jvm.Cond.privateMethod ({ cls := "WasteHouseModel$TicketChainModel", name := "reckon", desc := "()V" } : Jvm.MethodName)) ∈ lw_tbl := lw_at lw_m31 137 rfl
theorem q7730 : (Jvm.Cond.instanceMethod ({ cls := "WasteHouseModel$TicketChainModel", name := "reckon", desc := "()V" } : Jvm.MethodName)) ∈ lw_all := lw_g (lw_at lw_m31 138 rfl) rfl
theorem q7731 : (Jvm.Cond.code ({ cls := "WasteHouseModel$TicketChainModel", name := "reckon", desc := "()V" } : Jvm.MethodName) prog_65_method_7_code (3 : Nat) (Option.none : Option Jvm.ClassFile.FieldType)) ∈ lw_all := lw_g (lw_at lw_m31 139 rfl) rfl
theorem q7732 : (Jvm.Cond.methodLink "WasteHouseModel$TicketChainModel" (88 : Nat) ({ cls := "WasteHouseModel$TicketChainModel", name := "mix", desc := "(I)V" } : Jvm.MethodName)) ∈ lw_all := lw_g (lw_at lw_m31 140 rfl) rfl
theorem q7733 : (Jvm.Cond.privateMethod ({ cls := "WasteHouseModel$TicketChainModel", name := "mix", desc := "(I)V" } : Jvm.MethodName)) ∈ lw_tbl := lw_at lw_m31 141 rfl
theorem q7734 : (Jvm.Cond.instanceMethod ({ cls := "WasteHouseModel$TicketChainModel", name := "mix", desc := "(I)V" } : Jvm.MethodName)) ∈ lw_all := lw_g (lw_at lw_m31 142 rfl) rfl
theorem q7735 : (Jvm.Cond.code ({ cls := "WasteHouseModel$TicketChainModel", name := "mix", desc := "(I)V" } : Jvm.MethodName) prog_65_method_8_code (8 : Nat) (Option.none : Option Jvm.ClassFile.FieldType)) ∈ lw_all := lw_g (lw_at lw_m31 143 rfl) rfl
theorem q7736 : (Jvm.Cond.methodLink "WasteHouseModel$TicketChainModel" (91 : Nat) ({ cls := "WasteHouseModel$TicketChainModel", name := "rot", desc := "(II)I" } : Jvm.MethodName)) ∈ lw_all := lw_g (lw_at lw_m31 144 rfl) rfl
theorem q7737 : (Jvm.Cond.static ({ cls := "WasteHouseModel$TicketChainModel", name := "rot", desc := "(II)I" } : Jvm.MethodName)) ∈ lw_all := lw_g (lw_at lw_m31 145 rfl) rfl
theorem q7738 : (Jvm.Cond.code ({ cls := "WasteHouseModel$TicketChainModel", name := "rot", desc := "(II)I" } : Jvm.MethodName) prog_65_method_5_code (2 : Nat) (Option.some Jvm.ClassFile.FieldType.int)) ∈ lw_all := lw_g (lw_at lw_m31 146 rfl) rfl
theorem q8235 : (Jvm.Cond.instanceMethod ({ cls := "WasteHouseModel$TicketChainModel", name := "share", desc := "(II)J" } : Jvm.MethodName)) ∈ lw_all := lw_g (lw_at lw_m33 163 rfl) rfl
theorem q8236 : (Jvm.Cond.selects "WasteHouseModel$TicketChainModel" ({ cls := "WasteHouseModel$TicketChainModel", name := "share", desc := "(II)J" } : Jvm.MethodName) ({ cls := "WasteHouseModel$TicketChainModel", name := "share", desc := "(II)J" } : Jvm.MethodName)) ∈ lw_all := lw_g (lw_at lw_m33 164 rfl) rfl
theorem q8237 : (Jvm.Cond.code ({ cls := "WasteHouseModel$TicketChainModel", name := "share", desc := "(II)J" } : Jvm.MethodName) prog_65_method_29_code (16 : Nat) (Option.some Jvm.ClassFile.FieldType.long)) ∈ lw_all := lw_g (lw_at lw_m33 165 rfl) rfl
theorem q8238 : (Jvm.Cond.methodLink "WasteHouseModel$TicketChainModel" (159 : Nat) ({ cls := "WasteHouseModel$TicketChainModel", name := "isTicket", desc := "(I)Z" } : Jvm.MethodName)) ∈ lw_all := lw_g (lw_at lw_m33 166 rfl) rfl
theorem q8239 : (Jvm.Cond.privateMethod ({ cls := "WasteHouseModel$TicketChainModel", name := "isTicket", desc := "(I)Z" } : Jvm.MethodName)) ∈ lw_tbl := lw_at lw_m33 167 rfl
theorem q8240 : (Jvm.Cond.instanceMethod ({ cls := "WasteHouseModel$TicketChainModel", name := "isTicket", desc := "(I)Z" } : Jvm.MethodName)) ∈ lw_all := lw_g (lw_at lw_m33 168 rfl) rfl
theorem q8241 : (Jvm.Cond.code ({ cls := "WasteHouseModel$TicketChainModel", name := "isTicket", desc := "(I)Z" } : Jvm.MethodName) prog_65_method_14_code (2 : Nat) (Option.some Jvm.ClassFile.FieldType.boolean)) ∈ lw_all := lw_g (lw_at lw_m33 169 rfl) rfl
theorem q8242 : (Jvm.Cond.constantLong "WasteHouseModel$TicketChainModel" (166 : Nat) (7 : Int64)) ∈ lw_all := lw_g (lw_at lw_m33 170 rfl) rfl
theorem q8243 : (Jvm.Cond.methodLink "WasteHouseModel$TicketChainModel" (163 : Nat) ({ cls := "WasteHouseModel$TicketChainModel", name := "isVoid", desc := "(I)Z" } : Jvm.MethodName)) ∈ lw_all := lw_g (lw_at lw_m33 171 rfl) rfl
theorem q8244 : (Jvm.Cond.privateMethod ({ cls := "WasteHouseModel$TicketChainModel", name := "isVoid", desc := "(I)Z" } : Jvm.MethodName)) ∈ lw_tbl := lw_at lw_m33 172 rfl
theorem q8245 : (Jvm.Cond.instanceMethod ({ cls := "WasteHouseModel$TicketChainModel", name := "isVoid", desc := "(I)Z" } : Jvm.MethodName)) ∈ lw_all := lw_g (lw_at lw_m33 173 rfl) rfl
theorem q8246 : (Jvm.Cond.code ({ cls := "WasteHouseModel$TicketChainModel", name := "isVoid", desc := "(I)Z" } : Jvm.MethodName) prog_65_method_20_code (2 : Nat) (Option.some Jvm.ClassFile.FieldType.boolean)) ∈ lw_all := lw_g (lw_at lw_m33 174 rfl) rfl
theorem q8247 : (Jvm.Cond.methodLink "WasteHouseModel$TicketChainModel" (170 : Nat) ({ cls := "WasteHouseModel$TicketChainModel", name := "at", desc := "(II)J" } : Jvm.MethodName)) ∈ lw_all := lw_g (lw_at lw_m33 175 rfl) rfl
theorem q8248 : (Jvm.Cond.instanceMethod ({ cls := "WasteHouseModel$TicketChainModel", name := "at", desc := "(II)J" } : Jvm.MethodName)) ∈ lw_all := lw_g (lw_at lw_m33 176 rfl) rfl
theorem q8249 : (Jvm.Cond.selects "WasteHouseModel$TicketChainModel" ({ cls := "WasteHouseModel$TicketChainModel", name := "at", desc := "(II)J" } : Jvm.MethodName) ({ cls := "WasteHouseModel$TicketChainModel", name := "at", desc := "(II)J" } : Jvm.MethodName)) ∈ lw_all := lw_g (lw_at lw_m33 177 rfl) rfl
theorem q8250 : (Jvm.Cond.code ({ cls := "WasteHouseModel$TicketChainModel", name := "at", desc := "(II)J" } : Jvm.MethodName) prog_65_method_23_code (3 : Nat) (Option.some Jvm.ClassFile.FieldType.long)) ∈ lw_all := lw_g (lw_at lw_m33 178 rfl) rfl
theorem q8270 : (Jvm.Cond.instanceMethod ({ cls := "WasteHouseModel$TicketChainModel", name := "check", desc := "(I)I" } : Jvm.MethodName)) ∈ lw_all := lw_g (lw_at lw_m33 198 rfl) rfl
theorem q8271 : (Jvm.Cond.selects "WasteHouseModel$TicketChainModel" ({ cls := "WasteHouseModel$TicketChainModel", name := "check", desc := "(I)I" } : Jvm.MethodName) ({ cls := "WasteHouseModel$TicketChainModel", name := "check", desc := "(I)I" } : Jvm.MethodName)) ∈ lw_all := lw_g (lw_at lw_m33 199 rfl) rfl
theorem q8272 : (Jvm.Cond.code ({ cls := "WasteHouseModel$TicketChainModel", name := "check", desc := "(I)I" } : Jvm.MethodName) prog_65_method_37_code (4 : Nat) (Option.some Jvm.ClassFile.FieldType.int)) ∈ lw_all := lw_g (lw_at lw_m33 200 rfl) rfl
theorem q8292 : (Jvm.Cond.instanceMethod ({ cls := "WasteHouseModel$TicketChainModel", name := "follows", desc := "(IIJ)Z" } : Jvm.MethodName)) ∈ lw_all := lw_g (lw_at lw_m33 220 rfl) rfl
theorem q8293 : (Jvm.Cond.selects "WasteHouseModel$TicketChainModel" ({ cls := "WasteHouseModel$TicketChainModel", name := "follows", desc := "(IIJ)Z" } : Jvm.MethodName) ({ cls := "WasteHouseModel$TicketChainModel", name := "follows", desc := "(IIJ)Z" } : Jvm.MethodName)) ∈ lw_all := lw_g (lw_at lw_m33 221 rfl) rfl
theorem q8294 : (Jvm.Cond.code ({ cls := "WasteHouseModel$TicketChainModel", name := "follows", desc := "(IIJ)Z" } : Jvm.MethodName) prog_65_method_17_code (6 : Nat) (Option.some Jvm.ClassFile.FieldType.boolean)) ∈ lw_all := lw_g (lw_at lw_m33 222 rfl) rfl
theorem q8295 : (Jvm.Cond.constantLong "WasteHouseModel$TicketChainModel" (131 : Nat) (100000 : Int64)) ∈ lw_all := lw_g (lw_at lw_m33 223 rfl) rfl
theorem q8301 : (Jvm.Cond.instanceMethod ({ cls := "WasteHouseModel$TicketChainModel", name := "correct", desc := "(IIJI)I" } : Jvm.MethodName)) ∈ lw_all := lw_g (lw_at lw_m33 229 rfl) rfl
theorem q8302 : (Jvm.Cond.selects "WasteHouseModel$TicketChainModel" ({ cls := "WasteHouseModel$TicketChainModel", name := "correct", desc := "(IIJI)I" } : Jvm.MethodName) ({ cls := "WasteHouseModel$TicketChainModel", name := "correct", desc := "(IIJI)I" } : Jvm.MethodName)) ∈ lw_all := lw_g (lw_at lw_m33 230 rfl) rfl
theorem q8303 : (Jvm.Cond.code ({ cls := "WasteHouseModel$TicketChainModel", name := "correct", desc := "(IIJI)I" } : Jvm.MethodName) prog_65_method_21_code (11 : Nat) (Option.some Jvm.ClassFile.FieldType.int)) ∈ lw_all := lw_g (lw_at lw_m33 231 rfl) rfl
theorem q8306 : (Jvm.Cond.instanceMethod ({ cls := "WasteHouseModel$TicketChainModel", name := "voids", desc := "(II)I" } : Jvm.MethodName)) ∈ lw_all := lw_g (lw_at lw_m33 234 rfl) rfl
theorem q8307 : (Jvm.Cond.selects "WasteHouseModel$TicketChainModel" ({ cls := "WasteHouseModel$TicketChainModel", name := "voids", desc := "(II)I" } : Jvm.MethodName) ({ cls := "WasteHouseModel$TicketChainModel", name := "voids", desc := "(II)I" } : Jvm.MethodName)) ∈ lw_all := lw_g (lw_at lw_m33 235 rfl) rfl
theorem q8308 : (Jvm.Cond.code ({ cls := "WasteHouseModel$TicketChainModel", name := "voids", desc := "(II)I" } : Jvm.MethodName) prog_65_method_22_code (4 : Nat) (Option.some Jvm.ClassFile.FieldType.int)) ∈ lw_all := lw_g (lw_at lw_m33 236 rfl) rfl
theorem q8313 : (Jvm.Cond.instanceMethod ({ cls := "WasteHouseModel$TicketChainModel", name := "number", desc := "(I)I" } : Jvm.MethodName)) ∈ lw_all := lw_g (lw_at lw_m34 1 rfl) rfl
theorem q8314 : (Jvm.Cond.selects "WasteHouseModel$TicketChainModel" ({ cls := "WasteHouseModel$TicketChainModel", name := "number", desc := "(I)I" } : Jvm.MethodName) ({ cls := "WasteHouseModel$TicketChainModel", name := "number", desc := "(I)I" } : Jvm.MethodName)) ∈ lw_all := lw_g (lw_at lw_m34 2 rfl) rfl
theorem q8315 : (Jvm.Cond.code ({ cls := "WasteHouseModel$TicketChainModel", name := "number", desc := "(I)I" } : Jvm.MethodName) prog_65_method_24_code (2 : Nat) (Option.some Jvm.ClassFile.FieldType.int)) ∈ lw_all := lw_g (lw_at lw_m34 3 rfl) rfl
theorem q8318 : (Jvm.Cond.instanceMethod ({ cls := "WasteHouseModel$TicketChainModel", name := "gap", desc := "(I)I" } : Jvm.MethodName)) ∈ lw_all := lw_g (lw_at lw_m34 6 rfl) rfl
theorem q8319 : (Jvm.Cond.selects "WasteHouseModel$TicketChainModel" ({ cls := "WasteHouseModel$TicketChainModel", name := "gap", desc := "(I)I" } : Jvm.MethodName) ({ cls := "WasteHouseModel$TicketChainModel", name := "gap", desc := "(I)I" } : Jvm.MethodName)) ∈ lw_all := lw_g (lw_at lw_m34 7 rfl) rfl
theorem q8320 : (Jvm.Cond.code ({ cls := "WasteHouseModel$TicketChainModel", name := "gap", desc := "(I)I" } : Jvm.MethodName) prog_65_method_25_code (2 : Nat) (Option.some Jvm.ClassFile.FieldType.int)) ∈ lw_all := lw_g (lw_at lw_m34 8 rfl) rfl
theorem q8323 : (Jvm.Cond.instanceMethod ({ cls := "WasteHouseModel$TicketChainModel", name := "rows", desc := "()I" } : Jvm.MethodName)) ∈ lw_all := lw_g (lw_at lw_m34 11 rfl) rfl
theorem q8324 : (Jvm.Cond.selects "WasteHouseModel$TicketChainModel" ({ cls := "WasteHouseModel$TicketChainModel", name := "rows", desc := "()I" } : Jvm.MethodName) ({ cls := "WasteHouseModel$TicketChainModel", name := "rows", desc := "()I" } : Jvm.MethodName)) ∈ lw_all := lw_g (lw_at lw_m34 12 rfl) rfl
theorem q8325 : (Jvm.Cond.code ({ cls := "WasteHouseModel$TicketChainModel", name := "rows", desc := "()I" } : Jvm.MethodName) prog_65_method_26_code (1 : Nat) (Option.some Jvm.ClassFile.FieldType.int)) ∈ lw_all := lw_g (lw_at lw_m34 13 rfl) rfl
theorem q8328 : (Jvm.Cond.instanceMethod ({ cls := "WasteHouseModel$TicketChainModel", name := "made", desc := "()I" } : Jvm.MethodName)) ∈ lw_all := lw_g (lw_at lw_m34 16 rfl) rfl
theorem q8329 : (Jvm.Cond.selects "WasteHouseModel$TicketChainModel" ({ cls := "WasteHouseModel$TicketChainModel", name := "made", desc := "()I" } : Jvm.MethodName) ({ cls := "WasteHouseModel$TicketChainModel", name := "made", desc := "()I" } : Jvm.MethodName)) ∈ lw_all := lw_g (lw_at lw_m34 17 rfl) rfl
theorem q8330 : (Jvm.Cond.code ({ cls := "WasteHouseModel$TicketChainModel", name := "made", desc := "()I" } : Jvm.MethodName) prog_65_method_27_code (1 : Nat) (Option.some Jvm.ClassFile.FieldType.int)) ∈ lw_all := lw_g (lw_at lw_m34 18 rfl) rfl
theorem q8333 : (Jvm.Cond.instanceMethod ({ cls := "WasteHouseModel$TicketChainModel", name := "split", desc := "(IIJ)Z" } : Jvm.MethodName)) ∈ lw_all := lw_g (lw_at lw_m34 21 rfl) rfl
theorem q8334 : (Jvm.Cond.selects "WasteHouseModel$TicketChainModel" ({ cls := "WasteHouseModel$TicketChainModel", name := "split", desc := "(IIJ)Z" } : Jvm.MethodName) ({ cls := "WasteHouseModel$TicketChainModel", name := "split", desc := "(IIJ)Z" } : Jvm.MethodName)) ∈ lw_all := lw_g (lw_at lw_m34 22 rfl) rfl
theorem q8335 : (Jvm.Cond.code ({ cls := "WasteHouseModel$TicketChainModel", name := "split", desc := "(IIJ)Z" } : Jvm.MethodName) prog_65_method_28_code (5 : Nat) (Option.some Jvm.ClassFile.FieldType.boolean)) ∈ lw_all := lw_g (lw_at lw_m34 23 rfl) rfl
theorem q8336 : (Jvm.Cond.constantLong "WasteHouseModel$TicketChainModel" (168 : Nat) (1000000 : Int64)) ∈ lw_all := lw_g (lw_at lw_m34 24 rfl) rfl
theorem q8340 : (Jvm.Cond.instanceMethod ({ cls := "WasteHouseModel$TicketChainModel", name := "print", desc := "(II)I" } : Jvm.MethodName)) ∈ lw_all := lw_g (lw_at lw_m34 28 rfl) rfl
theorem q8341 : (Jvm.Cond.selects "WasteHouseModel$TicketChainModel" ({ cls := "WasteHouseModel$TicketChainModel", name := "print", desc := "(II)I" } : Jvm.MethodName) ({ cls := "WasteHouseModel$TicketChainModel", name := "print", desc := "(II)I" } : Jvm.MethodName)) ∈ lw_all := lw_g (lw_at lw_m34 29 rfl) rfl
theorem q8342 : (Jvm.Cond.code ({ cls := "WasteHouseModel$TicketChainModel", name := "print", desc := "(II)I" } : Jvm.MethodName) prog_65_method_32_code (4 : Nat) (Option.some Jvm.ClassFile.FieldType.int)) ∈ lw_all := lw_g (lw_at lw_m34 30 rfl) rfl
theorem q8343 : (Jvm.Cond.methodLink "WasteHouseModel$TicketChainModel" (180 : Nat) ({ cls := "WasteHouseModel$TicketChainModel", name := "put", desc := "(I)V" } : Jvm.MethodName)) ∈ lw_all := lw_g (lw_at lw_m34 31 rfl) rfl
theorem q8344 : (Jvm.Cond.privateMethod ({ cls := "WasteHouseModel$TicketChainModel", name := "put", desc := "(I)V" } : Jvm.MethodName)) ∈ lw_tbl := lw_at lw_m34 32 rfl
theorem q8345 : (Jvm.Cond.instanceMethod ({ cls := "WasteHouseModel$TicketChainModel", name := "put", desc := "(I)V" } : Jvm.MethodName)) ∈ lw_all := lw_g (lw_at lw_m34 33 rfl) rfl
theorem q8346 : (Jvm.Cond.code ({ cls := "WasteHouseModel$TicketChainModel", name := "put", desc := "(I)V" } : Jvm.MethodName) prog_65_method_30_code (2 : Nat) (Option.none : Option Jvm.ClassFile.FieldType)) ∈ lw_all := lw_g (lw_at lw_m34 34 rfl) rfl
theorem q8347 : (Jvm.Cond.methodLink "WasteHouseModel$TicketChainModel" (183 : Nat) ({ cls := "WasteHouseModel$TicketChainModel", name := "putNumber", desc := "(J)V" } : Jvm.MethodName)) ∈ lw_all := lw_g (lw_at lw_m34 35 rfl) rfl
theorem q8348 : (Jvm.Cond.privateMethod ({ cls := "WasteHouseModel$TicketChainModel", name := "putNumber", desc := "(J)V" } : Jvm.MethodName)) ∈ lw_tbl := lw_at lw_m34 36 rfl
theorem q8349 : (Jvm.Cond.instanceMethod ({ cls := "WasteHouseModel$TicketChainModel", name := "putNumber", desc := "(J)V" } : Jvm.MethodName)) ∈ lw_all := lw_g (lw_at lw_m34 37 rfl) rfl
theorem q8350 : (Jvm.Cond.code ({ cls := "WasteHouseModel$TicketChainModel", name := "putNumber", desc := "(J)V" } : Jvm.MethodName) prog_65_method_31_code (5 : Nat) (Option.none : Option Jvm.ClassFile.FieldType)) ∈ lw_all := lw_g (lw_at lw_m34 38 rfl) rfl
theorem q8351 : (Jvm.Cond.constantLong "WasteHouseModel$TicketChainModel" (176 : Nat) (10 : Int64)) ∈ lw_all := lw_g (lw_at lw_m34 39 rfl) rfl
theorem q8352 : (Jvm.Cond.constantLong "WasteHouseModel$TicketChainModel" (178 : Nat) (48 : Int64)) ∈ lw_all := lw_g (lw_at lw_m34 40 rfl) rfl
theorem q8356 : (Jvm.Cond.instanceMethod ({ cls := "WasteHouseModel$TicketChainModel", name := "poke", desc := "(III)Z" } : Jvm.MethodName)) ∈ lw_all := lw_g (lw_at lw_m34 44 rfl) rfl
theorem q8357 : (Jvm.Cond.selects "WasteHouseModel$TicketChainModel" ({ cls := "WasteHouseModel$TicketChainModel", name := "poke", desc := "(III)Z" } : Jvm.MethodName) ({ cls := "WasteHouseModel$TicketChainModel", name := "poke", desc := "(III)Z" } : Jvm.MethodName)) ∈ lw_all := lw_g (lw_at lw_m34 45 rfl) rfl
theorem q8358 : (Jvm.Cond.code ({ cls := "WasteHouseModel$TicketChainModel", name := "poke", desc := "(III)Z" } : Jvm.MethodName) prog_65_method_34_code (4 : Nat) (Option.some Jvm.ClassFile.FieldType.boolean)) ∈ lw_all := lw_g (lw_at lw_m34 46 rfl) rfl
theorem q8359 : (Jvm.Cond.methodLink "WasteHouseModel$TicketChainModel" (187 : Nat) ({ cls := "WasteHouseModel$TicketChainModel", name := "isRow", desc := "(I)Z" } : Jvm.MethodName)) ∈ lw_all := lw_g (lw_at lw_m34 47 rfl) rfl
theorem q8360 : (Jvm.Cond.privateMethod ({ cls := "WasteHouseModel$TicketChainModel", name := "isRow", desc := "(I)Z" } : Jvm.MethodName)) ∈ lw_tbl := lw_at lw_m34 48 rfl
theorem q8361 : (Jvm.Cond.instanceMethod ({ cls := "WasteHouseModel$TicketChainModel", name := "isRow", desc := "(I)Z" } : Jvm.MethodName)) ∈ lw_all := lw_g (lw_at lw_m34 49 rfl) rfl
theorem q8362 : (Jvm.Cond.code ({ cls := "WasteHouseModel$TicketChainModel", name := "isRow", desc := "(I)Z" } : Jvm.MethodName) prog_65_method_33_code (2 : Nat) (Option.some Jvm.ClassFile.FieldType.boolean)) ∈ lw_all := lw_g (lw_at lw_m34 50 rfl) rfl
theorem q8363 : (Jvm.Cond.constantLong "WasteHouseModel$TicketChainModel" (190 : Nat) (72 : Int64)) ∈ lw_all := lw_g (lw_at lw_m34 51 rfl) rfl
theorem q8366 : (Jvm.Cond.instanceMethod ({ cls := "WasteHouseModel$TicketChainModel", name := "byteAt", desc := "(II)I" } : Jvm.MethodName)) ∈ lw_all := lw_g (lw_at lw_m34 54 rfl) rfl
theorem q8367 : (Jvm.Cond.selects "WasteHouseModel$TicketChainModel" ({ cls := "WasteHouseModel$TicketChainModel", name := "byteAt", desc := "(II)I" } : Jvm.MethodName) ({ cls := "WasteHouseModel$TicketChainModel", name := "byteAt", desc := "(II)I" } : Jvm.MethodName)) ∈ lw_all := lw_g (lw_at lw_m34 55 rfl) rfl
theorem q8368 : (Jvm.Cond.code ({ cls := "WasteHouseModel$TicketChainModel", name := "byteAt", desc := "(II)I" } : Jvm.MethodName) prog_65_method_35_code (3 : Nat) (Option.some Jvm.ClassFile.FieldType.int)) ∈ lw_all := lw_g (lw_at lw_m34 56 rfl) rfl
theorem q8371 : (Jvm.Cond.instanceMethod ({ cls := "WasteHouseModel$TicketChainModel", name := "digest", desc := "(II)I" } : Jvm.MethodName)) ∈ lw_all := lw_g (lw_at lw_m34 59 rfl) rfl
theorem q8372 : (Jvm.Cond.selects "WasteHouseModel$TicketChainModel" ({ cls := "WasteHouseModel$TicketChainModel", name := "digest", desc := "(II)I" } : Jvm.MethodName) ({ cls := "WasteHouseModel$TicketChainModel", name := "digest", desc := "(II)I" } : Jvm.MethodName)) ∈ lw_all := lw_g (lw_at lw_m34 60 rfl) rfl
theorem q8373 : (Jvm.Cond.code ({ cls := "WasteHouseModel$TicketChainModel", name := "digest", desc := "(II)I" } : Jvm.MethodName) prog_65_method_36_code (3 : Nat) (Option.some Jvm.ClassFile.FieldType.int)) ∈ lw_all := lw_g (lw_at lw_m34 61 rfl) rfl
theorem q8374 : (Jvm.Cond.constantLong "WasteHouseModel$TicketChainModel" (192 : Nat) (31 : Int64)) ∈ lw_all := lw_g (lw_at lw_m34 62 rfl) rfl
theorem q8378 : (Jvm.Cond.instanceMethod ({ cls := "WasteHouseModel$TicketChainModel", name := "root", desc := "(II)I" } : Jvm.MethodName)) ∈ lw_all := lw_g (lw_at lw_m34 66 rfl) rfl
theorem q8379 : (Jvm.Cond.selects "WasteHouseModel$TicketChainModel" ({ cls := "WasteHouseModel$TicketChainModel", name := "root", desc := "(II)I" } : Jvm.MethodName) ({ cls := "WasteHouseModel$TicketChainModel", name := "root", desc := "(II)I" } : Jvm.MethodName)) ∈ lw_all := lw_g (lw_at lw_m34 67 rfl) rfl
theorem q8380 : (Jvm.Cond.code ({ cls := "WasteHouseModel$TicketChainModel", name := "root", desc := "(II)I" } : Jvm.MethodName) prog_65_method_38_code (6 : Nat) (Option.some Jvm.ClassFile.FieldType.int)) ∈ lw_all := lw_g (lw_at lw_m34 68 rfl) rfl
theorem q8381 : (Jvm.Cond.methodLink "WasteHouseModel$TicketChainModel" (194 : Nat) ({ cls := "WasteHouseModel$TicketChainModel", name := "pair", desc := "(IIZ)V" } : Jvm.MethodName)) ∈ lw_all := lw_g (lw_at lw_m34 69 rfl) rfl
theorem q8382 : (Jvm.Cond.privateMethod ({ cls := "WasteHouseModel$TicketChainModel", name := "pair", desc := "(IIZ)V" } : Jvm.MethodName)) ∈ lw_tbl := lw_at lw_m34 70 rfl
theorem q8383 : (Jvm.Cond.instanceMethod ({ cls := "WasteHouseModel$TicketChainModel", name := "pair", desc := "(IIZ)V" } : Jvm.MethodName)) ∈ lw_all := lw_g (lw_at lw_m34 71 rfl) rfl
theorem q8384 : (Jvm.Cond.code ({ cls := "WasteHouseModel$TicketChainModel", name := "pair", desc := "(IIZ)V" } : Jvm.MethodName) prog_65_method_39_code (5 : Nat) (Option.none : Option Jvm.ClassFile.FieldType)) ∈ lw_all := lw_g (lw_at lw_m34 72 rfl) rfl
theorem q8386 : (Jvm.Cond.instanceMethod ({ cls := "WasteHouseModel$TicketChainModel", name := "thrown", desc := "()I" } : Jvm.MethodName)) ∈ lw_all := lw_g (lw_at lw_m34 74 rfl) rfl
theorem q8387 : (Jvm.Cond.selects "WasteHouseModel$TicketChainModel" ({ cls := "WasteHouseModel$TicketChainModel", name := "thrown", desc := "()I" } : Jvm.MethodName) ({ cls := "WasteHouseModel$TicketChainModel", name := "thrown", desc := "()I" } : Jvm.MethodName)) ∈ lw_all := lw_g (lw_at lw_m34 75 rfl) rfl
theorem q8388 : (Jvm.Cond.code ({ cls := "WasteHouseModel$TicketChainModel", name := "thrown", desc := "()I" } : Jvm.MethodName) prog_65_method_2_code (1 : Nat) (Option.some Jvm.ClassFile.FieldType.int)) ∈ lw_all := lw_g (lw_at lw_m34 76 rfl) rfl
theorem q9672 : (Jvm.Cond.castable "WasteHouseModel$TicketChainModel" "java/lang/Object") ∈ lw_tbl := lw_at lw_m39 160 rfl
theorem in_X49 : ∀ w ∈ wsX490, w ∈ lw_all := lw_in wsX490 [6713, 6715, 6717, 6719, 6721, 6723, 6725, 6727, 6729, 6731, 6733, 6735, 6737, 6739, 6741, 6743, 6745, 6747, 6749, 6751, 6753, 6755, 6757, 6759, 6761] (by decide +kernel) (by decide +kernel)
