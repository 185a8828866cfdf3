/-! WasteHouse$PurityOdds -/
set_option maxRecDepth 100000
def RX31 : String := "WasteHouse$PurityOdds"
def TX31 : u_T := fun k => match k with
  | 0 => ("WasteHouse$PurityOdds", "seed", "J", true)
  | 1 => ("WasteHouse$PurityOdds", "sizes", "[I", true)
  | 2 => ("WasteHouse$PurityOdds", "mosts", "[I", true)
  | 3 => ("WasteHouse$PurityOdds", "plans", "I", false)
  | 4 => ("WasteHouse$PurityOdds", "lots", "[LWasteHouse$PurityOdds$Lot;", true)
  | 5 => ("WasteHouse$PurityOdds", "count", "I", false)
  | 6 => ("WasteHouse$PurityOdds", "steps", "[LWasteHouse$PurityOdds$Ratio;", true)
  | 7 => ("WasteHouse$PurityOdds", "cents", "[I", true)
  | 8 => ("WasteHouse$PurityOdds", "stepCount", "I", false)
  | 9 => ("WasteHouse$PurityOdds", "good", "LWasteHouse$PurityOdds$Ratio;", true)
  | 10 => ("WasteHouse$PurityOdds", "bad", "LWasteHouse$PurityOdds$Ratio;", true)
  | 11 => ("WasteHouse$PurityOdds", "hasShares", "Z", false)
  | 12 => ("WasteHouse$PurityOdds", "row", "[J", true)
  | 13 => ("WasteHouse$PurityOdds", "x", "LWasteHouse$PurityOdds$Ratio;", true)
  | 14 => ("WasteHouse$PurityOdds", "y", "LWasteHouse$PurityOdds$Ratio;", true)
  | _ => ("WasteHouse$PurityOdds", "least", "LWasteHouse$PurityOdds$Ratio;", true)
def tyX31 : Nat → FieldType := fun k => match k with
  | 0 => .long
  | 1 => .array .int
  | 2 => .array .int
  | 3 => .int
  | 4 => .array (.object "WasteHouse$PurityOdds$Lot")
  | 5 => .int
  | 6 => .array (.object "WasteHouse$PurityOdds$Ratio")
  | 7 => .array .int
  | 8 => .int
  | 9 => .object "WasteHouse$PurityOdds$Ratio"
  | 10 => .object "WasteHouse$PurityOdds$Ratio"
  | 11 => .boolean
  | 12 => .array .long
  | 13 => .object "WasteHouse$PurityOdds$Ratio"
  | 14 => .object "WasteHouse$PurityOdds$Ratio"
  | _ => .object "WasteHouse$PurityOdds$Ratio"
abbrev wsX310 : List Cond := u_ws RX31 TX31 16
set_option maxRecDepth 100000 in
theorem nmX31 : ∀ a, a < 16 → ∀ b, b < 16 → a ≠ b → (TX31 a).2.1 ≠ (TX31 b).2.1 := by decide +kernel
set_option maxRecDepth 100000 in
theorem tyX31_ok : ∀ k, k < 16 → parseFieldDescriptor (TX31 k).2.2.1 = some (tyX31 k) := by decide +kernel
abbrev cX31_init : ByteArray := prog_32_method_1_code
def yX31_init : MethodName := ⟨RX31, "<init>", "(J)V"⟩
def dkwX31_init_7 : List UInt8 := [167, 255, 234, 177]
abbrev dktX31_init_7 : List UInt8 := dkwX31_init_7 ++ []
def dkwX31_init_6 : List UInt8 := [29, 16, 12, 162, 0, 22, 42, 180, 0, 24, 29, 187, 0, 22, 89, 183, 0, 31, 83, 132, 3, 1]
abbrev dktX31_init_6 : List UInt8 := dkwX31_init_6 ++ dktX31_init_7
def dkwX31_init_5 : List UInt8 := [162, 0, 22, 42, 180, 0, 18, 29, 187, 0, 16, 89, 183, 0, 56, 83, 132, 3, 1, 167, 255, 234, 3, 62]
abbrev dktX31_init_5 : List UInt8 := dkwX31_init_5 ++ dktX31_init_6
def dkwX31_init_4 : List UInt8 := [181, 0, 46, 42, 187, 0, 22, 89, 183, 0, 31, 181, 0, 49, 42, 31, 181, 0, 52, 3, 62, 29, 16, 6]
abbrev dktX31_init_4 : List UInt8 := dkwX31_init_4 ++ dktX31_init_5
def dkwX31_init_3 : List UInt8 := [188, 11, 181, 0, 39, 42, 187, 0, 22, 89, 183, 0, 31, 181, 0, 43, 42, 187, 0, 22, 89, 183, 0, 31]
abbrev dktX31_init_3 : List UInt8 := dkwX31_init_3 ++ dktX31_init_4
def dkwX31_init_2 : List UInt8 := [187, 0, 22, 89, 183, 0, 31, 181, 0, 32, 42, 187, 0, 22, 89, 183, 0, 31, 181, 0, 36, 42, 16, 9]
abbrev dktX31_init_2 : List UInt8 := dkwX31_init_2 ++ dktX31_init_3
def dkwX31_init_1 : List UInt8 := [189, 0, 16, 181, 0, 18, 42, 16, 12, 189, 0, 22, 181, 0, 24, 42, 16, 12, 188, 10, 181, 0, 28, 42]
abbrev dktX31_init_1 : List UInt8 := dkwX31_init_1 ++ dktX31_init_2
def dkwX31_init_0 : List UInt8 := [42, 183, 0, 1, 42, 16, 20, 188, 10, 181, 0, 7, 42, 16, 20, 188, 10, 181, 0, 13, 42, 16, 6]
abbrev dktX31_init_0 : List UInt8 := dkwX31_init_0 ++ dktX31_init_1
theorem dksX31_init_0 : cX31_init.data.toList.drop 0 = dktX31_init_0 := by decide +kernel
theorem dksX31_init_1 : cX31_init.data.toList.drop 23 = dktX31_init_1 := dk_seg dksX31_init_0 23 rfl rfl
theorem dksX31_init_2 : cX31_init.data.toList.drop 47 = dktX31_init_2 := dk_seg dksX31_init_1 24 rfl rfl
theorem dksX31_init_3 : cX31_init.data.toList.drop 71 = dktX31_init_3 := dk_seg dksX31_init_2 24 rfl rfl
theorem dksX31_init_4 : cX31_init.data.toList.drop 95 = dktX31_init_4 := dk_seg dksX31_init_3 24 rfl rfl
theorem dksX31_init_5 : cX31_init.data.toList.drop 119 = dktX31_init_5 := dk_seg dksX31_init_4 24 rfl rfl
theorem dksX31_init_6 : cX31_init.data.toList.drop 143 = dktX31_init_6 := dk_seg dksX31_init_5 24 rfl rfl
theorem dksX31_init_7 : cX31_init.data.toList.drop 165 = dktX31_init_7 := dk_seg dksX31_init_6 22 rfl rfl
theorem dX31_init_0 : decode cX31_init 0 = .ok (.aload_n 0, 1) := dk_42 (dk_at dksX31_init_0 0 rfl rfl)
theorem dX31_init_1 : decode cX31_init 1 = .ok (.invokespecial 1, 3) := dk_183 0 1 (dk_at dksX31_init_0 1 rfl rfl)
theorem dX31_init_4 : decode cX31_init 4 = .ok (.aload_n 0, 1) := dk_42 (dk_at dksX31_init_0 4 rfl rfl)
theorem dX31_init_5 : decode cX31_init 5 = .ok (.bipush 20, 2) := dk_16 20 (dk_at dksX31_init_0 5 rfl rfl)
theorem dX31_init_7 : decode cX31_init 7 = .ok (.newarray .int, 2) := dk_188_10 (dk_at dksX31_init_0 7 rfl rfl)
theorem dX31_init_9 : decode cX31_init 9 = .ok (.putfield 7, 3) := dk_181 0 7 (dk_at dksX31_init_0 9 rfl rfl)
theorem dX31_init_12 : decode cX31_init 12 = .ok (.aload_n 0, 1) := dk_42 (dk_at dksX31_init_0 12 rfl rfl)
theorem dX31_init_13 : decode cX31_init 13 = .ok (.bipush 20, 2) := dk_16 20 (dk_at dksX31_init_0 13 rfl rfl)
theorem dX31_init_15 : decode cX31_init 15 = .ok (.newarray .int, 2) := dk_188_10 (dk_at dksX31_init_0 15 rfl rfl)
theorem dX31_init_17 : decode cX31_init 17 = .ok (.putfield 13, 3) := dk_181 0 13 (dk_at dksX31_init_0 17 rfl rfl)
theorem dX31_init_20 : decode cX31_init 20 = .ok (.aload_n 0, 1) := dk_42 (dk_at dksX31_init_0 20 rfl rfl)
theorem dX31_init_21 : decode cX31_init 21 = .ok (.bipush 6, 2) := dk_16 6 (dk_at dksX31_init_0 21 rfl rfl)
theorem dX31_init_23 : decode cX31_init 23 = .ok (.anewarray 16, 3) := dk_189 0 16 (dk_at dksX31_init_1 0 rfl rfl)
theorem dX31_init_26 : decode cX31_init 26 = .ok (.putfield 18, 3) := dk_181 0 18 (dk_at dksX31_init_1 3 rfl rfl)
theorem dX31_init_29 : decode cX31_init 29 = .ok (.aload_n 0, 1) := dk_42 (dk_at dksX31_init_1 6 rfl rfl)
theorem dX31_init_30 : decode cX31_init 30 = .ok (.bipush 12, 2) := dk_16 12 (dk_at dksX31_init_1 7 rfl rfl)
theorem dX31_init_32 : decode cX31_init 32 = .ok (.anewarray 22, 3) := dk_189 0 22 (dk_at dksX31_init_1 9 rfl rfl)
theorem dX31_init_35 : decode cX31_init 35 = .ok (.putfield 24, 3) := dk_181 0 24 (dk_at dksX31_init_1 12 rfl rfl)
theorem dX31_init_38 : decode cX31_init 38 = .ok (.aload_n 0, 1) := dk_42 (dk_at dksX31_init_1 15 rfl rfl)
theorem dX31_init_39 : decode cX31_init 39 = .ok (.bipush 12, 2) := dk_16 12 (dk_at dksX31_init_1 16 rfl rfl)
theorem dX31_init_41 : decode cX31_init 41 = .ok (.newarray .int, 2) := dk_188_10 (dk_at dksX31_init_1 18 rfl rfl)
theorem dX31_init_43 : decode cX31_init 43 = .ok (.putfield 28, 3) := dk_181 0 28 (dk_at dksX31_init_1 20 rfl rfl)
theorem dX31_init_46 : decode cX31_init 46 = .ok (.aload_n 0, 1) := dk_42 (dk_at dksX31_init_1 23 rfl rfl)
theorem dX31_init_47 : decode cX31_init 47 = .ok (.new 22, 3) := dk_187 0 22 (dk_at dksX31_init_2 0 rfl rfl)
theorem dX31_init_50 : decode cX31_init 50 = .ok (.dup, 1) := dk_89 (dk_at dksX31_init_2 3 rfl rfl)
theorem dX31_init_51 : decode cX31_init 51 = .ok (.invokespecial 31, 3) := dk_183 0 31 (dk_at dksX31_init_2 4 rfl rfl)
theorem dX31_init_54 : decode cX31_init 54 = .ok (.putfield 32, 3) := dk_181 0 32 (dk_at dksX31_init_2 7 rfl rfl)
theorem dX31_init_57 : decode cX31_init 57 = .ok (.aload_n 0, 1) := dk_42 (dk_at dksX31_init_2 10 rfl rfl)
theorem dX31_init_58 : decode cX31_init 58 = .ok (.new 22, 3) := dk_187 0 22 (dk_at dksX31_init_2 11 rfl rfl)
theorem dX31_init_61 : decode cX31_init 61 = .ok (.dup, 1) := dk_89 (dk_at dksX31_init_2 14 rfl rfl)
theorem dX31_init_62 : decode cX31_init 62 = .ok (.invokespecial 31, 3) := dk_183 0 31 (dk_at dksX31_init_2 15 rfl rfl)
theorem dX31_init_65 : decode cX31_init 65 = .ok (.putfield 36, 3) := dk_181 0 36 (dk_at dksX31_init_2 18 rfl rfl)
theorem dX31_init_68 : decode cX31_init 68 = .ok (.aload_n 0, 1) := dk_42 (dk_at dksX31_init_2 21 rfl rfl)
theorem dX31_init_69 : decode cX31_init 69 = .ok (.bipush 9, 2) := dk_16 9 (dk_at dksX31_init_2 22 rfl rfl)
theorem dX31_init_71 : decode cX31_init 71 = .ok (.newarray .long, 2) := dk_188_11 (dk_at dksX31_init_3 0 rfl rfl)
theorem dX31_init_73 : decode cX31_init 73 = .ok (.putfield 39, 3) := dk_181 0 39 (dk_at dksX31_init_3 2 rfl rfl)
theorem dX31_init_76 : decode cX31_init 76 = .ok (.aload_n 0, 1) := dk_42 (dk_at dksX31_init_3 5 rfl rfl)
theorem dX31_init_77 : decode cX31_init 77 = .ok (.new 22, 3) := dk_187 0 22 (dk_at dksX31_init_3 6 rfl rfl)
theorem dX31_init_80 : decode cX31_init 80 = .ok (.dup, 1) := dk_89 (dk_at dksX31_init_3 9 rfl rfl)
theorem dX31_init_81 : decode cX31_init 81 = .ok (.invokespecial 31, 3) := dk_183 0 31 (dk_at dksX31_init_3 10 rfl rfl)
theorem dX31_init_84 : decode cX31_init 84 = .ok (.putfield 43, 3) := dk_181 0 43 (dk_at dksX31_init_3 13 rfl rfl)
theorem dX31_init_87 : decode cX31_init 87 = .ok (.aload_n 0, 1) := dk_42 (dk_at dksX31_init_3 16 rfl rfl)
theorem dX31_init_88 : decode cX31_init 88 = .ok (.new 22, 3) := dk_187 0 22 (dk_at dksX31_init_3 17 rfl rfl)
theorem dX31_init_91 : decode cX31_init 91 = .ok (.dup, 1) := dk_89 (dk_at dksX31_init_3 20 rfl rfl)
theorem dX31_init_92 : decode cX31_init 92 = .ok (.invokespecial 31, 3) := dk_183 0 31 (dk_at dksX31_init_3 21 rfl rfl)
theorem dX31_init_95 : decode cX31_init 95 = .ok (.putfield 46, 3) := dk_181 0 46 (dk_at dksX31_init_4 0 rfl rfl)
theorem dX31_init_98 : decode cX31_init 98 = .ok (.aload_n 0, 1) := dk_42 (dk_at dksX31_init_4 3 rfl rfl)
theorem dX31_init_99 : decode cX31_init 99 = .ok (.new 22, 3) := dk_187 0 22 (dk_at dksX31_init_4 4 rfl rfl)
theorem dX31_init_102 : decode cX31_init 102 = .ok (.dup, 1) := dk_89 (dk_at dksX31_init_4 7 rfl rfl)
theorem dX31_init_103 : decode cX31_init 103 = .ok (.invokespecial 31, 3) := dk_183 0 31 (dk_at dksX31_init_4 8 rfl rfl)
theorem dX31_init_106 : decode cX31_init 106 = .ok (.putfield 49, 3) := dk_181 0 49 (dk_at dksX31_init_4 11 rfl rfl)
theorem dX31_init_109 : decode cX31_init 109 = .ok (.aload_n 0, 1) := dk_42 (dk_at dksX31_init_4 14 rfl rfl)
theorem dX31_init_110 : decode cX31_init 110 = .ok (.lload_n 1, 1) := dk_31 (dk_at dksX31_init_4 15 rfl rfl)
theorem dX31_init_111 : decode cX31_init 111 = .ok (.putfield 52, 3) := dk_181 0 52 (dk_at dksX31_init_4 16 rfl rfl)
theorem dX31_init_114 : decode cX31_init 114 = .ok (.iconst 0, 1) := dk_3 (dk_at dksX31_init_4 19 rfl rfl)
theorem dX31_init_115 : decode cX31_init 115 = .ok (.istore_n 3, 1) := dk_62 (dk_at dksX31_init_4 20 rfl rfl)
theorem dX31_init_116 : decode cX31_init 116 = .ok (.iload_n 3, 1) := dk_29 (dk_at dksX31_init_4 21 rfl rfl)
theorem dX31_init_117 : decode cX31_init 117 = .ok (.bipush 6, 2) := dk_16 6 (dk_at dksX31_init_4 22 rfl rfl)
theorem dX31_init_119 : decode cX31_init 119 = .ok (.if_icmp .ge 22, 3) := dk_162 0 22 (dk_at dksX31_init_5 0 rfl rfl)
theorem dX31_init_122 : decode cX31_init 122 = .ok (.aload_n 0, 1) := dk_42 (dk_at dksX31_init_5 3 rfl rfl)
theorem dX31_init_123 : decode cX31_init 123 = .ok (.getfield 18, 3) := dk_180 0 18 (dk_at dksX31_init_5 4 rfl rfl)
theorem dX31_init_126 : decode cX31_init 126 = .ok (.iload_n 3, 1) := dk_29 (dk_at dksX31_init_5 7 rfl rfl)
theorem dX31_init_127 : decode cX31_init 127 = .ok (.new 16, 3) := dk_187 0 16 (dk_at dksX31_init_5 8 rfl rfl)
theorem dX31_init_130 : decode cX31_init 130 = .ok (.dup, 1) := dk_89 (dk_at dksX31_init_5 11 rfl rfl)
theorem dX31_init_131 : decode cX31_init 131 = .ok (.invokespecial 56, 3) := dk_183 0 56 (dk_at dksX31_init_5 12 rfl rfl)
theorem dX31_init_134 : decode cX31_init 134 = .ok (.aastore, 1) := dk_83 (dk_at dksX31_init_5 15 rfl rfl)
theorem dX31_init_135 : decode cX31_init 135 = .ok (.iinc 3 1, 3) := dk_132 3 1 (dk_at dksX31_init_5 16 rfl rfl)
theorem dX31_init_138 : decode cX31_init 138 = .ok (.goto (-22), 3) := dk_167 255 234 (dk_at dksX31_init_5 19 rfl rfl)
theorem dX31_init_141 : decode cX31_init 141 = .ok (.iconst 0, 1) := dk_3 (dk_at dksX31_init_5 22 rfl rfl)
theorem dX31_init_142 : decode cX31_init 142 = .ok (.istore_n 3, 1) := dk_62 (dk_at dksX31_init_5 23 rfl rfl)
theorem dX31_init_143 : decode cX31_init 143 = .ok (.iload_n 3, 1) := dk_29 (dk_at dksX31_init_6 0 rfl rfl)
theorem dX31_init_144 : decode cX31_init 144 = .ok (.bipush 12, 2) := dk_16 12 (dk_at dksX31_init_6 1 rfl rfl)
theorem dX31_init_146 : decode cX31_init 146 = .ok (.if_icmp .ge 22, 3) := dk_162 0 22 (dk_at dksX31_init_6 3 rfl rfl)
theorem dX31_init_149 : decode cX31_init 149 = .ok (.aload_n 0, 1) := dk_42 (dk_at dksX31_init_6 6 rfl rfl)
theorem dX31_init_150 : decode cX31_init 150 = .ok (.getfield 24, 3) := dk_180 0 24 (dk_at dksX31_init_6 7 rfl rfl)
theorem dX31_init_153 : decode cX31_init 153 = .ok (.iload_n 3, 1) := dk_29 (dk_at dksX31_init_6 10 rfl rfl)
theorem dX31_init_154 : decode cX31_init 154 = .ok (.new 22, 3) := dk_187 0 22 (dk_at dksX31_init_6 11 rfl rfl)
theorem dX31_init_157 : decode cX31_init 157 = .ok (.dup, 1) := dk_89 (dk_at dksX31_init_6 14 rfl rfl)
theorem dX31_init_158 : decode cX31_init 158 = .ok (.invokespecial 31, 3) := dk_183 0 31 (dk_at dksX31_init_6 15 rfl rfl)
theorem dX31_init_161 : decode cX31_init 161 = .ok (.aastore, 1) := dk_83 (dk_at dksX31_init_6 18 rfl rfl)
theorem dX31_init_162 : decode cX31_init 162 = .ok (.iinc 3 1, 3) := dk_132 3 1 (dk_at dksX31_init_6 19 rfl rfl)
theorem dX31_init_165 : decode cX31_init 165 = .ok (.goto (-22), 3) := dk_167 255 234 (dk_at dksX31_init_7 0 rfl rfl)
theorem dX31_init_168 : decode cX31_init 168 = .ok (.return_, 1) := dk_177 (dk_at dksX31_init_7 3 rfl rfl)
abbrev cX31_lot : ByteArray := prog_32_method_12_code
def yX31_lot : MethodName := ⟨RX31, "lot", "(J)I"⟩
def dkwX31_lot_2 : List UInt8 := [180, 0, 112, 133, 105, 97, 182, 0, 122, 42, 89, 180, 0, 112, 90, 4, 96, 181, 0, 112, 172]
abbrev dktX31_lot_2 : List UInt8 := dkwX31_lot_2 ++ []
def dkwX31_lot_1 : List UInt8 := [180, 0, 18, 42, 180, 0, 112, 50, 78, 45, 31, 181, 0, 117, 45, 42, 180, 0, 52, 20, 0, 120, 42]
abbrev dktX31_lot_1 : List UInt8 := dkwX31_lot_1 ++ dktX31_lot_2
def dkwX31_lot_0 : List UInt8 := [42, 180, 0, 112, 16, 6, 159, 0, 14, 31, 10, 20, 0, 115, 184, 0, 57, 154, 0, 5, 2, 172, 42]
abbrev dktX31_lot_0 : List UInt8 := dkwX31_lot_0 ++ dktX31_lot_1
theorem dksX31_lot_0 : cX31_lot.data.toList.drop 0 = dktX31_lot_0 := by decide +kernel
theorem dksX31_lot_1 : cX31_lot.data.toList.drop 23 = dktX31_lot_1 := dk_seg dksX31_lot_0 23 rfl rfl
theorem dksX31_lot_2 : cX31_lot.data.toList.drop 46 = dktX31_lot_2 := dk_seg dksX31_lot_1 23 rfl rfl
theorem dX31_lot_0 : decode cX31_lot 0 = .ok (.aload_n 0, 1) := dk_42 (dk_at dksX31_lot_0 0 rfl rfl)
theorem dX31_lot_1 : decode cX31_lot 1 = .ok (.getfield 112, 3) := dk_180 0 112 (dk_at dksX31_lot_0 1 rfl rfl)
theorem dX31_lot_4 : decode cX31_lot 4 = .ok (.bipush 6, 2) := dk_16 6 (dk_at dksX31_lot_0 4 rfl rfl)
theorem dX31_lot_6 : decode cX31_lot 6 = .ok (.if_icmp .eq 14, 3) := dk_159 0 14 (dk_at dksX31_lot_0 6 rfl rfl)
theorem dX31_lot_9 : decode cX31_lot 9 = .ok (.lload_n 1, 1) := dk_31 (dk_at dksX31_lot_0 9 rfl rfl)
theorem dX31_lot_10 : decode cX31_lot 10 = .ok (.lconst 1, 1) := dk_10 (dk_at dksX31_lot_0 10 rfl rfl)
theorem dX31_lot_11 : decode cX31_lot 11 = .ok (.ldc2_w 115, 3) := dk_20 0 115 (dk_at dksX31_lot_0 11 rfl rfl)
theorem dX31_lot_14 : decode cX31_lot 14 = .ok (.invokestatic 57, 3) := dk_184 0 57 (dk_at dksX31_lot_0 14 rfl rfl)
theorem dX31_lot_17 : decode cX31_lot 17 = .ok (.ifCond .ne 5, 3) := dk_154 0 5 (dk_at dksX31_lot_0 17 rfl rfl)
theorem dX31_lot_20 : decode cX31_lot 20 = .ok (.iconst (-1), 1) := dk_2 (dk_at dksX31_lot_0 20 rfl rfl)
theorem dX31_lot_21 : decode cX31_lot 21 = .ok (.ireturn, 1) := dk_172 (dk_at dksX31_lot_0 21 rfl rfl)
theorem dX31_lot_22 : decode cX31_lot 22 = .ok (.aload_n 0, 1) := dk_42 (dk_at dksX31_lot_0 22 rfl rfl)
theorem dX31_lot_23 : decode cX31_lot 23 = .ok (.getfield 18, 3) := dk_180 0 18 (dk_at dksX31_lot_1 0 rfl rfl)
theorem dX31_lot_26 : decode cX31_lot 26 = .ok (.aload_n 0, 1) := dk_42 (dk_at dksX31_lot_1 3 rfl rfl)
theorem dX31_lot_27 : decode cX31_lot 27 = .ok (.getfield 112, 3) := dk_180 0 112 (dk_at dksX31_lot_1 4 rfl rfl)
theorem dX31_lot_30 : decode cX31_lot 30 = .ok (.aaload, 1) := dk_50 (dk_at dksX31_lot_1 7 rfl rfl)
theorem dX31_lot_31 : decode cX31_lot 31 = .ok (.astore_n 3, 1) := dk_78 (dk_at dksX31_lot_1 8 rfl rfl)
theorem dX31_lot_32 : decode cX31_lot 32 = .ok (.aload_n 3, 1) := dk_45 (dk_at dksX31_lot_1 9 rfl rfl)
theorem dX31_lot_33 : decode cX31_lot 33 = .ok (.lload_n 1, 1) := dk_31 (dk_at dksX31_lot_1 10 rfl rfl)
theorem dX31_lot_34 : decode cX31_lot 34 = .ok (.putfield 117, 3) := dk_181 0 117 (dk_at dksX31_lot_1 11 rfl rfl)
theorem dX31_lot_37 : decode cX31_lot 37 = .ok (.aload_n 3, 1) := dk_45 (dk_at dksX31_lot_1 14 rfl rfl)
theorem dX31_lot_38 : decode cX31_lot 38 = .ok (.aload_n 0, 1) := dk_42 (dk_at dksX31_lot_1 15 rfl rfl)
theorem dX31_lot_39 : decode cX31_lot 39 = .ok (.getfield 52, 3) := dk_180 0 52 (dk_at dksX31_lot_1 16 rfl rfl)
theorem dX31_lot_42 : decode cX31_lot 42 = .ok (.ldc2_w 120, 3) := dk_20 0 120 (dk_at dksX31_lot_1 19 rfl rfl)
theorem dX31_lot_45 : decode cX31_lot 45 = .ok (.aload_n 0, 1) := dk_42 (dk_at dksX31_lot_1 22 rfl rfl)
theorem dX31_lot_46 : decode cX31_lot 46 = .ok (.getfield 112, 3) := dk_180 0 112 (dk_at dksX31_lot_2 0 rfl rfl)
theorem dX31_lot_49 : decode cX31_lot 49 = .ok (.i2l, 1) := dk_133 (dk_at dksX31_lot_2 3 rfl rfl)
theorem dX31_lot_50 : decode cX31_lot 50 = .ok (.lmul, 1) := dk_105 (dk_at dksX31_lot_2 4 rfl rfl)
theorem dX31_lot_51 : decode cX31_lot 51 = .ok (.ladd, 1) := dk_97 (dk_at dksX31_lot_2 5 rfl rfl)
theorem dX31_lot_52 : decode cX31_lot 52 = .ok (.invokevirtual 122, 3) := dk_182 0 122 (dk_at dksX31_lot_2 6 rfl rfl)
theorem dX31_lot_55 : decode cX31_lot 55 = .ok (.aload_n 0, 1) := dk_42 (dk_at dksX31_lot_2 9 rfl rfl)
theorem dX31_lot_56 : decode cX31_lot 56 = .ok (.dup, 1) := dk_89 (dk_at dksX31_lot_2 10 rfl rfl)
theorem dX31_lot_57 : decode cX31_lot 57 = .ok (.getfield 112, 3) := dk_180 0 112 (dk_at dksX31_lot_2 11 rfl rfl)
theorem dX31_lot_60 : decode cX31_lot 60 = .ok (.dup_x1, 1) := dk_90 (dk_at dksX31_lot_2 14 rfl rfl)
theorem dX31_lot_61 : decode cX31_lot 61 = .ok (.iconst 1, 1) := dk_4 (dk_at dksX31_lot_2 15 rfl rfl)
theorem dX31_lot_62 : decode cX31_lot 62 = .ok (.iadd, 1) := dk_96 (dk_at dksX31_lot_2 16 rfl rfl)
theorem dX31_lot_63 : decode cX31_lot 63 = .ok (.putfield 112, 3) := dk_181 0 112 (dk_at dksX31_lot_2 17 rfl rfl)
theorem dX31_lot_66 : decode cX31_lot 66 = .ok (.ireturn, 1) := dk_172 (dk_at dksX31_lot_2 20 rfl rfl)
abbrev cX31_isIn : ByteArray := prog_32_method_2_code
def yX31_isIn : MethodName := ⟨RX31, "isIn", "(JJJ)Z"⟩
def dkwX31_isIn_0 : List UInt8 := [30, 32, 148, 155, 0, 14, 30, 22, 4, 148, 157, 0, 7, 4, 167, 0, 4, 3, 172]
abbrev dktX31_isIn_0 : List UInt8 := dkwX31_isIn_0 ++ []
theorem dksX31_isIn_0 : cX31_isIn.data.toList.drop 0 = dktX31_isIn_0 := by decide +kernel
theorem dX31_isIn_0 : decode cX31_isIn 0 = .ok (.lload_n 0, 1) := dk_30 (dk_at dksX31_isIn_0 0 rfl rfl)
theorem dX31_isIn_1 : decode cX31_isIn 1 = .ok (.lload_n 2, 1) := dk_32 (dk_at dksX31_isIn_0 1 rfl rfl)
theorem dX31_isIn_2 : decode cX31_isIn 2 = .ok (.lcmp, 1) := dk_148 (dk_at dksX31_isIn_0 2 rfl rfl)
theorem dX31_isIn_3 : decode cX31_isIn 3 = .ok (.ifCond .lt 14, 3) := dk_155 0 14 (dk_at dksX31_isIn_0 3 rfl rfl)
theorem dX31_isIn_6 : decode cX31_isIn 6 = .ok (.lload_n 0, 1) := dk_30 (dk_at dksX31_isIn_0 6 rfl rfl)
theorem dX31_isIn_7 : decode cX31_isIn 7 = .ok (.lload 4, 2) := dk_22 4 (dk_at dksX31_isIn_0 7 rfl rfl)
theorem dX31_isIn_9 : decode cX31_isIn 9 = .ok (.lcmp, 1) := dk_148 (dk_at dksX31_isIn_0 9 rfl rfl)
theorem dX31_isIn_10 : decode cX31_isIn 10 = .ok (.ifCond .gt 7, 3) := dk_157 0 7 (dk_at dksX31_isIn_0 10 rfl rfl)
theorem dX31_isIn_13 : decode cX31_isIn 13 = .ok (.iconst 1, 1) := dk_4 (dk_at dksX31_isIn_0 13 rfl rfl)
theorem dX31_isIn_14 : decode cX31_isIn 14 = .ok (.goto 4, 3) := dk_167 0 4 (dk_at dksX31_isIn_0 14 rfl rfl)
theorem dX31_isIn_17 : decode cX31_isIn 17 = .ok (.iconst 0, 1) := dk_3 (dk_at dksX31_isIn_0 17 rfl rfl)
theorem dX31_isIn_18 : decode cX31_isIn 18 = .ok (.ireturn, 1) := dk_172 (dk_at dksX31_isIn_0 18 rfl rfl)
abbrev cX31_piece : ByteArray := prog_32_method_13_code
def yX31_piece : MethodName := ⟨RX31, "piece", "(IIJ)Z"⟩
def dkwX31_piece_4 : List UInt8 := [92, 47, 33, 97, 80, 25, 5, 89, 180, 0, 145, 33, 97, 181, 0, 145, 4, 172]
abbrev dktX31_piece_4 : List UInt8 := dkwX31_piece_4 ++ []
def dkwX31_piece_3 : List UInt8 := [180, 0, 139, 25, 5, 89, 180, 0, 133, 90, 4, 96, 181, 0, 133, 33, 136, 79, 25, 5, 180, 0, 142, 28]
abbrev dktX31_piece_3 : List UInt8 := dkwX31_piece_3 ++ dktX31_piece_4
def dkwX31_piece_2 : List UInt8 := [172, 42, 180, 0, 18, 27, 50, 58, 5, 25, 5, 180, 0, 136, 25, 5, 180, 0, 133, 28, 79, 25, 5]
abbrev dktX31_piece_2 : List UInt8 := dkwX31_piece_2 ++ dktX31_piece_3
def dkwX31_piece_1 : List UInt8 := [20, 0, 131, 184, 0, 57, 153, 0, 17, 42, 180, 0, 18, 27, 50, 180, 0, 133, 16, 30, 160, 0, 5, 3]
abbrev dktX31_piece_1 : List UInt8 := dkwX31_piece_1 ++ dktX31_piece_2
def dkwX31_piece_0 : List UInt8 := [42, 27, 182, 0, 126, 153, 0, 40, 28, 133, 9, 20, 0, 129, 184, 0, 57, 153, 0, 28, 33, 10]
abbrev dktX31_piece_0 : List UInt8 := dkwX31_piece_0 ++ dktX31_piece_1
theorem dksX31_piece_0 : cX31_piece.data.toList.drop 0 = dktX31_piece_0 := by decide +kernel
theorem dksX31_piece_1 : cX31_piece.data.toList.drop 22 = dktX31_piece_1 := dk_seg dksX31_piece_0 22 rfl rfl
theorem dksX31_piece_2 : cX31_piece.data.toList.drop 46 = dktX31_piece_2 := dk_seg dksX31_piece_1 24 rfl rfl
theorem dksX31_piece_3 : cX31_piece.data.toList.drop 69 = dktX31_piece_3 := dk_seg dksX31_piece_2 23 rfl rfl
theorem dksX31_piece_4 : cX31_piece.data.toList.drop 93 = dktX31_piece_4 := dk_seg dksX31_piece_3 24 rfl rfl
theorem dX31_piece_0 : decode cX31_piece 0 = .ok (.aload_n 0, 1) := dk_42 (dk_at dksX31_piece_0 0 rfl rfl)
theorem dX31_piece_1 : decode cX31_piece 1 = .ok (.iload_n 1, 1) := dk_27 (dk_at dksX31_piece_0 1 rfl rfl)
theorem dX31_piece_2 : decode cX31_piece 2 = .ok (.invokevirtual 126, 3) := dk_182 0 126 (dk_at dksX31_piece_0 2 rfl rfl)
theorem dX31_piece_5 : decode cX31_piece 5 = .ok (.ifCond .eq 40, 3) := dk_153 0 40 (dk_at dksX31_piece_0 5 rfl rfl)
theorem dX31_piece_8 : decode cX31_piece 8 = .ok (.iload_n 2, 1) := dk_28 (dk_at dksX31_piece_0 8 rfl rfl)
theorem dX31_piece_9 : decode cX31_piece 9 = .ok (.i2l, 1) := dk_133 (dk_at dksX31_piece_0 9 rfl rfl)
theorem dX31_piece_10 : decode cX31_piece 10 = .ok (.lconst 0, 1) := dk_9 (dk_at dksX31_piece_0 10 rfl rfl)
theorem dX31_piece_11 : decode cX31_piece 11 = .ok (.ldc2_w 129, 3) := dk_20 0 129 (dk_at dksX31_piece_0 11 rfl rfl)
theorem dX31_piece_14 : decode cX31_piece 14 = .ok (.invokestatic 57, 3) := dk_184 0 57 (dk_at dksX31_piece_0 14 rfl rfl)
theorem dX31_piece_17 : decode cX31_piece 17 = .ok (.ifCond .eq 28, 3) := dk_153 0 28 (dk_at dksX31_piece_0 17 rfl rfl)
theorem dX31_piece_20 : decode cX31_piece 20 = .ok (.lload_n 3, 1) := dk_33 (dk_at dksX31_piece_0 20 rfl rfl)
theorem dX31_piece_21 : decode cX31_piece 21 = .ok (.lconst 1, 1) := dk_10 (dk_at dksX31_piece_0 21 rfl rfl)
theorem dX31_piece_22 : decode cX31_piece 22 = .ok (.ldc2_w 131, 3) := dk_20 0 131 (dk_at dksX31_piece_1 0 rfl rfl)
theorem dX31_piece_25 : decode cX31_piece 25 = .ok (.invokestatic 57, 3) := dk_184 0 57 (dk_at dksX31_piece_1 3 rfl rfl)
theorem dX31_piece_28 : decode cX31_piece 28 = .ok (.ifCond .eq 17, 3) := dk_153 0 17 (dk_at dksX31_piece_1 6 rfl rfl)
theorem dX31_piece_31 : decode cX31_piece 31 = .ok (.aload_n 0, 1) := dk_42 (dk_at dksX31_piece_1 9 rfl rfl)
theorem dX31_piece_32 : decode cX31_piece 32 = .ok (.getfield 18, 3) := dk_180 0 18 (dk_at dksX31_piece_1 10 rfl rfl)
theorem dX31_piece_35 : decode cX31_piece 35 = .ok (.iload_n 1, 1) := dk_27 (dk_at dksX31_piece_1 13 rfl rfl)
theorem dX31_piece_36 : decode cX31_piece 36 = .ok (.aaload, 1) := dk_50 (dk_at dksX31_piece_1 14 rfl rfl)
theorem dX31_piece_37 : decode cX31_piece 37 = .ok (.getfield 133, 3) := dk_180 0 133 (dk_at dksX31_piece_1 15 rfl rfl)
theorem dX31_piece_40 : decode cX31_piece 40 = .ok (.bipush 30, 2) := dk_16 30 (dk_at dksX31_piece_1 18 rfl rfl)
theorem dX31_piece_42 : decode cX31_piece 42 = .ok (.if_icmp .ne 5, 3) := dk_160 0 5 (dk_at dksX31_piece_1 20 rfl rfl)
theorem dX31_piece_45 : decode cX31_piece 45 = .ok (.iconst 0, 1) := dk_3 (dk_at dksX31_piece_1 23 rfl rfl)
theorem dX31_piece_46 : decode cX31_piece 46 = .ok (.ireturn, 1) := dk_172 (dk_at dksX31_piece_2 0 rfl rfl)
theorem dX31_piece_47 : decode cX31_piece 47 = .ok (.aload_n 0, 1) := dk_42 (dk_at dksX31_piece_2 1 rfl rfl)
theorem dX31_piece_48 : decode cX31_piece 48 = .ok (.getfield 18, 3) := dk_180 0 18 (dk_at dksX31_piece_2 2 rfl rfl)
theorem dX31_piece_51 : decode cX31_piece 51 = .ok (.iload_n 1, 1) := dk_27 (dk_at dksX31_piece_2 5 rfl rfl)
theorem dX31_piece_52 : decode cX31_piece 52 = .ok (.aaload, 1) := dk_50 (dk_at dksX31_piece_2 6 rfl rfl)
theorem dX31_piece_53 : decode cX31_piece 53 = .ok (.astore 5, 2) := dk_58 5 (dk_at dksX31_piece_2 7 rfl rfl)
theorem dX31_piece_55 : decode cX31_piece 55 = .ok (.aload 5, 2) := dk_25 5 (dk_at dksX31_piece_2 9 rfl rfl)
theorem dX31_piece_57 : decode cX31_piece 57 = .ok (.getfield 136, 3) := dk_180 0 136 (dk_at dksX31_piece_2 11 rfl rfl)
theorem dX31_piece_60 : decode cX31_piece 60 = .ok (.aload 5, 2) := dk_25 5 (dk_at dksX31_piece_2 14 rfl rfl)
theorem dX31_piece_62 : decode cX31_piece 62 = .ok (.getfield 133, 3) := dk_180 0 133 (dk_at dksX31_piece_2 16 rfl rfl)
theorem dX31_piece_65 : decode cX31_piece 65 = .ok (.iload_n 2, 1) := dk_28 (dk_at dksX31_piece_2 19 rfl rfl)
theorem dX31_piece_66 : decode cX31_piece 66 = .ok (.iastore, 1) := dk_79 (dk_at dksX31_piece_2 20 rfl rfl)
theorem dX31_piece_67 : decode cX31_piece 67 = .ok (.aload 5, 2) := dk_25 5 (dk_at dksX31_piece_2 21 rfl rfl)
theorem dX31_piece_69 : decode cX31_piece 69 = .ok (.getfield 139, 3) := dk_180 0 139 (dk_at dksX31_piece_3 0 rfl rfl)
theorem dX31_piece_72 : decode cX31_piece 72 = .ok (.aload 5, 2) := dk_25 5 (dk_at dksX31_piece_3 3 rfl rfl)
theorem dX31_piece_74 : decode cX31_piece 74 = .ok (.dup, 1) := dk_89 (dk_at dksX31_piece_3 5 rfl rfl)
theorem dX31_piece_75 : decode cX31_piece 75 = .ok (.getfield 133, 3) := dk_180 0 133 (dk_at dksX31_piece_3 6 rfl rfl)
theorem dX31_piece_78 : decode cX31_piece 78 = .ok (.dup_x1, 1) := dk_90 (dk_at dksX31_piece_3 9 rfl rfl)
theorem dX31_piece_79 : decode cX31_piece 79 = .ok (.iconst 1, 1) := dk_4 (dk_at dksX31_piece_3 10 rfl rfl)
theorem dX31_piece_80 : decode cX31_piece 80 = .ok (.iadd, 1) := dk_96 (dk_at dksX31_piece_3 11 rfl rfl)
theorem dX31_piece_81 : decode cX31_piece 81 = .ok (.putfield 133, 3) := dk_181 0 133 (dk_at dksX31_piece_3 12 rfl rfl)
theorem dX31_piece_84 : decode cX31_piece 84 = .ok (.lload_n 3, 1) := dk_33 (dk_at dksX31_piece_3 15 rfl rfl)
theorem dX31_piece_85 : decode cX31_piece 85 = .ok (.l2i, 1) := dk_136 (dk_at dksX31_piece_3 16 rfl rfl)
theorem dX31_piece_86 : decode cX31_piece 86 = .ok (.iastore, 1) := dk_79 (dk_at dksX31_piece_3 17 rfl rfl)
theorem dX31_piece_87 : decode cX31_piece 87 = .ok (.aload 5, 2) := dk_25 5 (dk_at dksX31_piece_3 18 rfl rfl)
theorem dX31_piece_89 : decode cX31_piece 89 = .ok (.getfield 142, 3) := dk_180 0 142 (dk_at dksX31_piece_3 20 rfl rfl)
theorem dX31_piece_92 : decode cX31_piece 92 = .ok (.iload_n 2, 1) := dk_28 (dk_at dksX31_piece_3 23 rfl rfl)
theorem dX31_piece_93 : decode cX31_piece 93 = .ok (.dup2, 1) := dk_92 (dk_at dksX31_piece_4 0 rfl rfl)
theorem dX31_piece_94 : decode cX31_piece 94 = .ok (.laload, 1) := dk_47 (dk_at dksX31_piece_4 1 rfl rfl)
theorem dX31_piece_95 : decode cX31_piece 95 = .ok (.lload_n 3, 1) := dk_33 (dk_at dksX31_piece_4 2 rfl rfl)
theorem dX31_piece_96 : decode cX31_piece 96 = .ok (.ladd, 1) := dk_97 (dk_at dksX31_piece_4 3 rfl rfl)
theorem dX31_piece_97 : decode cX31_piece 97 = .ok (.lastore, 1) := dk_80 (dk_at dksX31_piece_4 4 rfl rfl)
theorem dX31_piece_98 : decode cX31_piece 98 = .ok (.aload 5, 2) := dk_25 5 (dk_at dksX31_piece_4 5 rfl rfl)
theorem dX31_piece_100 : decode cX31_piece 100 = .ok (.dup, 1) := dk_89 (dk_at dksX31_piece_4 7 rfl rfl)
theorem dX31_piece_101 : decode cX31_piece 101 = .ok (.getfield 145, 3) := dk_180 0 145 (dk_at dksX31_piece_4 8 rfl rfl)
theorem dX31_piece_104 : decode cX31_piece 104 = .ok (.lload_n 3, 1) := dk_33 (dk_at dksX31_piece_4 11 rfl rfl)
theorem dX31_piece_105 : decode cX31_piece 105 = .ok (.ladd, 1) := dk_97 (dk_at dksX31_piece_4 12 rfl rfl)
theorem dX31_piece_106 : decode cX31_piece 106 = .ok (.putfield 145, 3) := dk_181 0 145 (dk_at dksX31_piece_4 13 rfl rfl)
theorem dX31_piece_109 : decode cX31_piece 109 = .ok (.iconst 1, 1) := dk_4 (dk_at dksX31_piece_4 16 rfl rfl)
theorem dX31_piece_110 : decode cX31_piece 110 = .ok (.ireturn, 1) := dk_172 (dk_at dksX31_piece_4 17 rfl rfl)
abbrev cX31_isLot : ByteArray := prog_32_method_11_code
def yX31_isLot : MethodName := ⟨RX31, "isLot", "(I)Z"⟩
def dkwX31_isLot_0 : List UInt8 := [27, 155, 0, 15, 27, 42, 180, 0, 112, 162, 0, 7, 4, 167, 0, 4, 3, 172]
abbrev dktX31_isLot_0 : List UInt8 := dkwX31_isLot_0 ++ []
theorem dksX31_isLot_0 : cX31_isLot.data.toList.drop 0 = dktX31_isLot_0 := by decide +kernel
theorem dX31_isLot_0 : decode cX31_isLot 0 = .ok (.iload_n 1, 1) := dk_27 (dk_at dksX31_isLot_0 0 rfl rfl)
theorem dX31_isLot_1 : decode cX31_isLot 1 = .ok (.ifCond .lt 15, 3) := dk_155 0 15 (dk_at dksX31_isLot_0 1 rfl rfl)
theorem dX31_isLot_4 : decode cX31_isLot 4 = .ok (.iload_n 1, 1) := dk_27 (dk_at dksX31_isLot_0 4 rfl rfl)
theorem dX31_isLot_5 : decode cX31_isLot 5 = .ok (.aload_n 0, 1) := dk_42 (dk_at dksX31_isLot_0 5 rfl rfl)
theorem dX31_isLot_6 : decode cX31_isLot 6 = .ok (.getfield 112, 3) := dk_180 0 112 (dk_at dksX31_isLot_0 6 rfl rfl)
theorem dX31_isLot_9 : decode cX31_isLot 9 = .ok (.if_icmp .ge 7, 3) := dk_162 0 7 (dk_at dksX31_isLot_0 9 rfl rfl)
theorem dX31_isLot_12 : decode cX31_isLot 12 = .ok (.iconst 1, 1) := dk_4 (dk_at dksX31_isLot_0 12 rfl rfl)
theorem dX31_isLot_13 : decode cX31_isLot 13 = .ok (.goto 4, 3) := dk_167 0 4 (dk_at dksX31_isLot_0 13 rfl rfl)
theorem dX31_isLot_16 : decode cX31_isLot 16 = .ok (.iconst 0, 1) := dk_3 (dk_at dksX31_isLot_0 16 rfl rfl)
theorem dX31_isLot_17 : decode cX31_isLot 17 = .ok (.ireturn, 1) := dk_172 (dk_at dksX31_isLot_0 17 rfl rfl)
abbrev cX31_price : ByteArray := prog_32_method_20_code
def yX31_price : MethodName := ⟨RX31, "price", "(I)J"⟩
def dkwX31_price_2 : List UInt8 := [28, 46, 133, 42, 180, 0, 18, 27, 50, 180, 0, 117, 105, 20, 0, 148, 109, 173]
abbrev dktX31_price_2 : List UInt8 := dkwX31_price_2 ++ []
def dkwX31_price_1 : List UInt8 := [182, 0, 164, 42, 42, 180, 0, 46, 182, 0, 168, 61, 28, 156, 0, 7, 9, 167, 0, 24, 42, 180, 0, 28]
abbrev dktX31_price_1 : List UInt8 := dkwX31_price_1 ++ dktX31_price_2
def dkwX31_price_0 : List UInt8 := [42, 27, 182, 0, 161, 154, 0, 7, 20, 0, 80, 173, 42, 42, 180, 0, 18, 27, 50, 42, 180, 0, 46]
abbrev dktX31_price_0 : List UInt8 := dkwX31_price_0 ++ dktX31_price_1
theorem dksX31_price_0 : cX31_price.data.toList.drop 0 = dktX31_price_0 := by decide +kernel
theorem dksX31_price_1 : cX31_price.data.toList.drop 23 = dktX31_price_1 := dk_seg dksX31_price_0 23 rfl rfl
theorem dksX31_price_2 : cX31_price.data.toList.drop 47 = dktX31_price_2 := dk_seg dksX31_price_1 24 rfl rfl
theorem dX31_price_0 : decode cX31_price 0 = .ok (.aload_n 0, 1) := dk_42 (dk_at dksX31_price_0 0 rfl rfl)
theorem dX31_price_1 : decode cX31_price 1 = .ok (.iload_n 1, 1) := dk_27 (dk_at dksX31_price_0 1 rfl rfl)
theorem dX31_price_2 : decode cX31_price 2 = .ok (.invokevirtual 161, 3) := dk_182 0 161 (dk_at dksX31_price_0 2 rfl rfl)
theorem dX31_price_5 : decode cX31_price 5 = .ok (.ifCond .ne 7, 3) := dk_154 0 7 (dk_at dksX31_price_0 5 rfl rfl)
theorem dX31_price_8 : decode cX31_price 8 = .ok (.ldc2_w 80, 3) := dk_20 0 80 (dk_at dksX31_price_0 8 rfl rfl)
theorem dX31_price_11 : decode cX31_price 11 = .ok (.lreturn, 1) := dk_173 (dk_at dksX31_price_0 11 rfl rfl)
theorem dX31_price_12 : decode cX31_price 12 = .ok (.aload_n 0, 1) := dk_42 (dk_at dksX31_price_0 12 rfl rfl)
theorem dX31_price_13 : decode cX31_price 13 = .ok (.aload_n 0, 1) := dk_42 (dk_at dksX31_price_0 13 rfl rfl)
theorem dX31_price_14 : decode cX31_price 14 = .ok (.getfield 18, 3) := dk_180 0 18 (dk_at dksX31_price_0 14 rfl rfl)
theorem dX31_price_17 : decode cX31_price 17 = .ok (.iload_n 1, 1) := dk_27 (dk_at dksX31_price_0 17 rfl rfl)
theorem dX31_price_18 : decode cX31_price 18 = .ok (.aaload, 1) := dk_50 (dk_at dksX31_price_0 18 rfl rfl)
theorem dX31_price_19 : decode cX31_price 19 = .ok (.aload_n 0, 1) := dk_42 (dk_at dksX31_price_0 19 rfl rfl)
theorem dX31_price_20 : decode cX31_price 20 = .ok (.getfield 46, 3) := dk_180 0 46 (dk_at dksX31_price_0 20 rfl rfl)
theorem dX31_price_23 : decode cX31_price 23 = .ok (.invokevirtual 164, 3) := dk_182 0 164 (dk_at dksX31_price_1 0 rfl rfl)
theorem dX31_price_26 : decode cX31_price 26 = .ok (.aload_n 0, 1) := dk_42 (dk_at dksX31_price_1 3 rfl rfl)
theorem dX31_price_27 : decode cX31_price 27 = .ok (.aload_n 0, 1) := dk_42 (dk_at dksX31_price_1 4 rfl rfl)
theorem dX31_price_28 : decode cX31_price 28 = .ok (.getfield 46, 3) := dk_180 0 46 (dk_at dksX31_price_1 5 rfl rfl)
theorem dX31_price_31 : decode cX31_price 31 = .ok (.invokevirtual 168, 3) := dk_182 0 168 (dk_at dksX31_price_1 8 rfl rfl)
theorem dX31_price_34 : decode cX31_price 34 = .ok (.istore_n 2, 1) := dk_61 (dk_at dksX31_price_1 11 rfl rfl)
theorem dX31_price_35 : decode cX31_price 35 = .ok (.iload_n 2, 1) := dk_28 (dk_at dksX31_price_1 12 rfl rfl)
theorem dX31_price_36 : decode cX31_price 36 = .ok (.ifCond .ge 7, 3) := dk_156 0 7 (dk_at dksX31_price_1 13 rfl rfl)
theorem dX31_price_39 : decode cX31_price 39 = .ok (.lconst 0, 1) := dk_9 (dk_at dksX31_price_1 16 rfl rfl)
theorem dX31_price_40 : decode cX31_price 40 = .ok (.goto 24, 3) := dk_167 0 24 (dk_at dksX31_price_1 17 rfl rfl)
theorem dX31_price_43 : decode cX31_price 43 = .ok (.aload_n 0, 1) := dk_42 (dk_at dksX31_price_1 20 rfl rfl)
theorem dX31_price_44 : decode cX31_price 44 = .ok (.getfield 28, 3) := dk_180 0 28 (dk_at dksX31_price_1 21 rfl rfl)
theorem dX31_price_47 : decode cX31_price 47 = .ok (.iload_n 2, 1) := dk_28 (dk_at dksX31_price_2 0 rfl rfl)
theorem dX31_price_48 : decode cX31_price 48 = .ok (.iaload, 1) := dk_46 (dk_at dksX31_price_2 1 rfl rfl)
theorem dX31_price_49 : decode cX31_price 49 = .ok (.i2l, 1) := dk_133 (dk_at dksX31_price_2 2 rfl rfl)
theorem dX31_price_50 : decode cX31_price 50 = .ok (.aload_n 0, 1) := dk_42 (dk_at dksX31_price_2 3 rfl rfl)
theorem dX31_price_51 : decode cX31_price 51 = .ok (.getfield 18, 3) := dk_180 0 18 (dk_at dksX31_price_2 4 rfl rfl)
theorem dX31_price_54 : decode cX31_price 54 = .ok (.iload_n 1, 1) := dk_27 (dk_at dksX31_price_2 7 rfl rfl)
theorem dX31_price_55 : decode cX31_price 55 = .ok (.aaload, 1) := dk_50 (dk_at dksX31_price_2 8 rfl rfl)
theorem dX31_price_56 : decode cX31_price 56 = .ok (.getfield 117, 3) := dk_180 0 117 (dk_at dksX31_price_2 9 rfl rfl)
theorem dX31_price_59 : decode cX31_price 59 = .ok (.lmul, 1) := dk_105 (dk_at dksX31_price_2 12 rfl rfl)
theorem dX31_price_60 : decode cX31_price 60 = .ok (.ldc2_w 148, 3) := dk_20 0 148 (dk_at dksX31_price_2 13 rfl rfl)
theorem dX31_price_63 : decode cX31_price 63 = .ok (.ldiv, 1) := dk_109 (dk_at dksX31_price_2 16 rfl rfl)
theorem dX31_price_64 : decode cX31_price 64 = .ok (.lreturn, 1) := dk_173 (dk_at dksX31_price_2 17 rfl rfl)
abbrev cX31_isKnown : ByteArray := prog_32_method_18_code
def yX31_isKnown : MethodName := ⟨RX31, "isKnown", "(I)Z"⟩
def dkwX31_isKnown_1 : List UInt8 := [27, 50, 180, 0, 133, 158, 0, 7, 4, 167, 0, 4, 3, 172]
abbrev dktX31_isKnown_1 : List UInt8 := dkwX31_isKnown_1 ++ []
def dkwX31_isKnown_0 : List UInt8 := [42, 27, 182, 0, 126, 153, 0, 31, 42, 180, 0, 18, 27, 50, 180, 0, 155, 154, 0, 15, 42, 180, 0, 18]
abbrev dktX31_isKnown_0 : List UInt8 := dkwX31_isKnown_0 ++ dktX31_isKnown_1
theorem dksX31_isKnown_0 : cX31_isKnown.data.toList.drop 0 = dktX31_isKnown_0 := by decide +kernel
theorem dksX31_isKnown_1 : cX31_isKnown.data.toList.drop 24 = dktX31_isKnown_1 := dk_seg dksX31_isKnown_0 24 rfl rfl
theorem dX31_isKnown_0 : decode cX31_isKnown 0 = .ok (.aload_n 0, 1) := dk_42 (dk_at dksX31_isKnown_0 0 rfl rfl)
theorem dX31_isKnown_1 : decode cX31_isKnown 1 = .ok (.iload_n 1, 1) := dk_27 (dk_at dksX31_isKnown_0 1 rfl rfl)
theorem dX31_isKnown_2 : decode cX31_isKnown 2 = .ok (.invokevirtual 126, 3) := dk_182 0 126 (dk_at dksX31_isKnown_0 2 rfl rfl)
theorem dX31_isKnown_5 : decode cX31_isKnown 5 = .ok (.ifCond .eq 31, 3) := dk_153 0 31 (dk_at dksX31_isKnown_0 5 rfl rfl)
theorem dX31_isKnown_8 : decode cX31_isKnown 8 = .ok (.aload_n 0, 1) := dk_42 (dk_at dksX31_isKnown_0 8 rfl rfl)
theorem dX31_isKnown_9 : decode cX31_isKnown 9 = .ok (.getfield 18, 3) := dk_180 0 18 (dk_at dksX31_isKnown_0 9 rfl rfl)
theorem dX31_isKnown_12 : decode cX31_isKnown 12 = .ok (.iload_n 1, 1) := dk_27 (dk_at dksX31_isKnown_0 12 rfl rfl)
theorem dX31_isKnown_13 : decode cX31_isKnown 13 = .ok (.aaload, 1) := dk_50 (dk_at dksX31_isKnown_0 13 rfl rfl)
theorem dX31_isKnown_14 : decode cX31_isKnown 14 = .ok (.getfield 155, 3) := dk_180 0 155 (dk_at dksX31_isKnown_0 14 rfl rfl)
theorem dX31_isKnown_17 : decode cX31_isKnown 17 = .ok (.ifCond .ne 15, 3) := dk_154 0 15 (dk_at dksX31_isKnown_0 17 rfl rfl)
theorem dX31_isKnown_20 : decode cX31_isKnown 20 = .ok (.aload_n 0, 1) := dk_42 (dk_at dksX31_isKnown_0 20 rfl rfl)
theorem dX31_isKnown_21 : decode cX31_isKnown 21 = .ok (.getfield 18, 3) := dk_180 0 18 (dk_at dksX31_isKnown_0 21 rfl rfl)
theorem dX31_isKnown_24 : decode cX31_isKnown 24 = .ok (.iload_n 1, 1) := dk_27 (dk_at dksX31_isKnown_1 0 rfl rfl)
theorem dX31_isKnown_25 : decode cX31_isKnown 25 = .ok (.aaload, 1) := dk_50 (dk_at dksX31_isKnown_1 1 rfl rfl)
theorem dX31_isKnown_26 : decode cX31_isKnown 26 = .ok (.getfield 133, 3) := dk_180 0 133 (dk_at dksX31_isKnown_1 2 rfl rfl)
theorem dX31_isKnown_29 : decode cX31_isKnown 29 = .ok (.ifCond .le 7, 3) := dk_158 0 7 (dk_at dksX31_isKnown_1 5 rfl rfl)
theorem dX31_isKnown_32 : decode cX31_isKnown 32 = .ok (.iconst 1, 1) := dk_4 (dk_at dksX31_isKnown_1 8 rfl rfl)
theorem dX31_isKnown_33 : decode cX31_isKnown 33 = .ok (.goto 4, 3) := dk_167 0 4 (dk_at dksX31_isKnown_1 9 rfl rfl)
theorem dX31_isKnown_36 : decode cX31_isKnown 36 = .ok (.iconst 0, 1) := dk_3 (dk_at dksX31_isKnown_1 12 rfl rfl)
theorem dX31_isKnown_37 : decode cX31_isKnown 37 = .ok (.ireturn, 1) := dk_172 (dk_at dksX31_isKnown_1 13 rfl rfl)
abbrev cX31_purity : ByteArray := prog_32_method_19_code
def yX31_purity : MethodName := ⟨RX31, "purity", "(LWasteHouse$PurityOdds$Lot;LWasteHouse$PurityOdds$Ratio;)V"⟩
def dkwX31_purity_1 : List UInt8 := [182, 0, 67, 167, 0, 17, 44, 43, 180, 0, 142, 3, 47, 43, 180, 0, 145, 182, 0, 67, 177]
abbrev dktX31_purity_1 : List UInt8 := dkwX31_purity_1 ++ []
def dkwX31_purity_0 : List UInt8 := [43, 180, 0, 155, 153, 0, 24, 44, 43, 180, 0, 158, 180, 0, 90, 43, 180, 0, 158, 180, 0, 93]
abbrev dktX31_purity_0 : List UInt8 := dkwX31_purity_0 ++ dktX31_purity_1
theorem dksX31_purity_0 : cX31_purity.data.toList.drop 0 = dktX31_purity_0 := by decide +kernel
theorem dksX31_purity_1 : cX31_purity.data.toList.drop 22 = dktX31_purity_1 := dk_seg dksX31_purity_0 22 rfl rfl
theorem dX31_purity_0 : decode cX31_purity 0 = .ok (.aload_n 1, 1) := dk_43 (dk_at dksX31_purity_0 0 rfl rfl)
theorem dX31_purity_1 : decode cX31_purity 1 = .ok (.getfield 155, 3) := dk_180 0 155 (dk_at dksX31_purity_0 1 rfl rfl)
theorem dX31_purity_4 : decode cX31_purity 4 = .ok (.ifCond .eq 24, 3) := dk_153 0 24 (dk_at dksX31_purity_0 4 rfl rfl)
theorem dX31_purity_7 : decode cX31_purity 7 = .ok (.aload_n 2, 1) := dk_44 (dk_at dksX31_purity_0 7 rfl rfl)
theorem dX31_purity_8 : decode cX31_purity 8 = .ok (.aload_n 1, 1) := dk_43 (dk_at dksX31_purity_0 8 rfl rfl)
theorem dX31_purity_9 : decode cX31_purity 9 = .ok (.getfield 158, 3) := dk_180 0 158 (dk_at dksX31_purity_0 9 rfl rfl)
theorem dX31_purity_12 : decode cX31_purity 12 = .ok (.getfield 90, 3) := dk_180 0 90 (dk_at dksX31_purity_0 12 rfl rfl)
theorem dX31_purity_15 : decode cX31_purity 15 = .ok (.aload_n 1, 1) := dk_43 (dk_at dksX31_purity_0 15 rfl rfl)
theorem dX31_purity_16 : decode cX31_purity 16 = .ok (.getfield 158, 3) := dk_180 0 158 (dk_at dksX31_purity_0 16 rfl rfl)
theorem dX31_purity_19 : decode cX31_purity 19 = .ok (.getfield 93, 3) := dk_180 0 93 (dk_at dksX31_purity_0 19 rfl rfl)
theorem dX31_purity_22 : decode cX31_purity 22 = .ok (.invokevirtual 67, 3) := dk_182 0 67 (dk_at dksX31_purity_1 0 rfl rfl)
theorem dX31_purity_25 : decode cX31_purity 25 = .ok (.goto 17, 3) := dk_167 0 17 (dk_at dksX31_purity_1 3 rfl rfl)
theorem dX31_purity_28 : decode cX31_purity 28 = .ok (.aload_n 2, 1) := dk_44 (dk_at dksX31_purity_1 6 rfl rfl)
theorem dX31_purity_29 : decode cX31_purity 29 = .ok (.aload_n 1, 1) := dk_43 (dk_at dksX31_purity_1 7 rfl rfl)
theorem dX31_purity_30 : decode cX31_purity 30 = .ok (.getfield 142, 3) := dk_180 0 142 (dk_at dksX31_purity_1 8 rfl rfl)
theorem dX31_purity_33 : decode cX31_purity 33 = .ok (.iconst 0, 1) := dk_3 (dk_at dksX31_purity_1 11 rfl rfl)
theorem dX31_purity_34 : decode cX31_purity 34 = .ok (.laload, 1) := dk_47 (dk_at dksX31_purity_1 12 rfl rfl)
theorem dX31_purity_35 : decode cX31_purity 35 = .ok (.aload_n 1, 1) := dk_43 (dk_at dksX31_purity_1 13 rfl rfl)
theorem dX31_purity_36 : decode cX31_purity 36 = .ok (.getfield 145, 3) := dk_180 0 145 (dk_at dksX31_purity_1 14 rfl rfl)
theorem dX31_purity_39 : decode cX31_purity 39 = .ok (.invokevirtual 67, 3) := dk_182 0 67 (dk_at dksX31_purity_1 17 rfl rfl)
theorem dX31_purity_42 : decode cX31_purity 42 = .ok (.return_, 1) := dk_177 (dk_at dksX31_purity_1 20 rfl rfl)
abbrev cX31_stepOf : ByteArray := prog_32_method_17_code
def yX31_stepOf : MethodName := ⟨RX31, "stepOf", "(LWasteHouse$PurityOdds$Ratio;)I"⟩
def dkwX31_stepOf_1 : List UInt8 := [132, 2, 255, 167, 255, 236, 28, 172]
abbrev dktX31_stepOf_1 : List UInt8 := dkwX31_stepOf_1 ++ []
def dkwX31_stepOf_0 : List UInt8 := [42, 180, 0, 152, 4, 100, 61, 28, 155, 0, 22, 42, 180, 0, 24, 28, 50, 43, 182, 0, 104, 158, 0, 9]
abbrev dktX31_stepOf_0 : List UInt8 := dkwX31_stepOf_0 ++ dktX31_stepOf_1
theorem dksX31_stepOf_0 : cX31_stepOf.data.toList.drop 0 = dktX31_stepOf_0 := by decide +kernel
theorem dksX31_stepOf_1 : cX31_stepOf.data.toList.drop 24 = dktX31_stepOf_1 := dk_seg dksX31_stepOf_0 24 rfl rfl
theorem dX31_stepOf_0 : decode cX31_stepOf 0 = .ok (.aload_n 0, 1) := dk_42 (dk_at dksX31_stepOf_0 0 rfl rfl)
theorem dX31_stepOf_1 : decode cX31_stepOf 1 = .ok (.getfield 152, 3) := dk_180 0 152 (dk_at dksX31_stepOf_0 1 rfl rfl)
theorem dX31_stepOf_4 : decode cX31_stepOf 4 = .ok (.iconst 1, 1) := dk_4 (dk_at dksX31_stepOf_0 4 rfl rfl)
theorem dX31_stepOf_5 : decode cX31_stepOf 5 = .ok (.isub, 1) := dk_100 (dk_at dksX31_stepOf_0 5 rfl rfl)
theorem dX31_stepOf_6 : decode cX31_stepOf 6 = .ok (.istore_n 2, 1) := dk_61 (dk_at dksX31_stepOf_0 6 rfl rfl)
theorem dX31_stepOf_7 : decode cX31_stepOf 7 = .ok (.iload_n 2, 1) := dk_28 (dk_at dksX31_stepOf_0 7 rfl rfl)
theorem dX31_stepOf_8 : decode cX31_stepOf 8 = .ok (.ifCond .lt 22, 3) := dk_155 0 22 (dk_at dksX31_stepOf_0 8 rfl rfl)
theorem dX31_stepOf_11 : decode cX31_stepOf 11 = .ok (.aload_n 0, 1) := dk_42 (dk_at dksX31_stepOf_0 11 rfl rfl)
theorem dX31_stepOf_12 : decode cX31_stepOf 12 = .ok (.getfield 24, 3) := dk_180 0 24 (dk_at dksX31_stepOf_0 12 rfl rfl)
theorem dX31_stepOf_15 : decode cX31_stepOf 15 = .ok (.iload_n 2, 1) := dk_28 (dk_at dksX31_stepOf_0 15 rfl rfl)
theorem dX31_stepOf_16 : decode cX31_stepOf 16 = .ok (.aaload, 1) := dk_50 (dk_at dksX31_stepOf_0 16 rfl rfl)
theorem dX31_stepOf_17 : decode cX31_stepOf 17 = .ok (.aload_n 1, 1) := dk_43 (dk_at dksX31_stepOf_0 17 rfl rfl)
theorem dX31_stepOf_18 : decode cX31_stepOf 18 = .ok (.invokevirtual 104, 3) := dk_182 0 104 (dk_at dksX31_stepOf_0 18 rfl rfl)
theorem dX31_stepOf_21 : decode cX31_stepOf 21 = .ok (.ifCond .le 9, 3) := dk_158 0 9 (dk_at dksX31_stepOf_0 21 rfl rfl)
theorem dX31_stepOf_24 : decode cX31_stepOf 24 = .ok (.iinc 2 (-1), 3) := dk_132 2 255 (dk_at dksX31_stepOf_1 0 rfl rfl)
theorem dX31_stepOf_27 : decode cX31_stepOf 27 = .ok (.goto (-20), 3) := dk_167 255 236 (dk_at dksX31_stepOf_1 3 rfl rfl)
theorem dX31_stepOf_30 : decode cX31_stepOf 30 = .ok (.iload_n 2, 1) := dk_28 (dk_at dksX31_stepOf_1 6 rfl rfl)
theorem dX31_stepOf_31 : decode cX31_stepOf 31 = .ok (.ireturn, 1) := dk_172 (dk_at dksX31_stepOf_1 7 rfl rfl)
abbrev cX31_share : ByteArray := prog_32_method_14_code
def yX31_share : MethodName := ⟨RX31, "share", "(III)J"⟩
def dkwX31_share_3 : List UInt8 := [182, 0, 86, 173]
abbrev dktX31_share_3 : List UInt8 := dkwX31_share_3 ++ []
def dkwX31_share_2 : List UInt8 := [180, 0, 142, 28, 47, 42, 180, 0, 18, 27, 50, 180, 0, 145, 182, 0, 67, 42, 180, 0, 43, 29]
abbrev dktX31_share_2 : List UInt8 := dkwX31_share_2 ++ dktX31_share_3
def dkwX31_share_1 : List UInt8 := [27, 50, 180, 0, 133, 154, 0, 7, 20, 0, 80, 173, 42, 180, 0, 43, 42, 180, 0, 18, 27, 50]
abbrev dktX31_share_1 : List UInt8 := dkwX31_share_1 ++ dktX31_share_2
def dkwX31_share_0 : List UInt8 := [42, 27, 182, 0, 126, 153, 0, 27, 28, 133, 9, 20, 0, 129, 184, 0, 57, 153, 0, 15, 42, 180, 0, 18]
abbrev dktX31_share_0 : List UInt8 := dkwX31_share_0 ++ dktX31_share_1
theorem dksX31_share_0 : cX31_share.data.toList.drop 0 = dktX31_share_0 := by decide +kernel
theorem dksX31_share_1 : cX31_share.data.toList.drop 24 = dktX31_share_1 := dk_seg dksX31_share_0 24 rfl rfl
theorem dksX31_share_2 : cX31_share.data.toList.drop 46 = dktX31_share_2 := dk_seg dksX31_share_1 22 rfl rfl
theorem dksX31_share_3 : cX31_share.data.toList.drop 68 = dktX31_share_3 := dk_seg dksX31_share_2 22 rfl rfl
theorem dX31_share_0 : decode cX31_share 0 = .ok (.aload_n 0, 1) := dk_42 (dk_at dksX31_share_0 0 rfl rfl)
theorem dX31_share_1 : decode cX31_share 1 = .ok (.iload_n 1, 1) := dk_27 (dk_at dksX31_share_0 1 rfl rfl)
theorem dX31_share_2 : decode cX31_share 2 = .ok (.invokevirtual 126, 3) := dk_182 0 126 (dk_at dksX31_share_0 2 rfl rfl)
theorem dX31_share_5 : decode cX31_share 5 = .ok (.ifCond .eq 27, 3) := dk_153 0 27 (dk_at dksX31_share_0 5 rfl rfl)
theorem dX31_share_8 : decode cX31_share 8 = .ok (.iload_n 2, 1) := dk_28 (dk_at dksX31_share_0 8 rfl rfl)
theorem dX31_share_9 : decode cX31_share 9 = .ok (.i2l, 1) := dk_133 (dk_at dksX31_share_0 9 rfl rfl)
theorem dX31_share_10 : decode cX31_share 10 = .ok (.lconst 0, 1) := dk_9 (dk_at dksX31_share_0 10 rfl rfl)
theorem dX31_share_11 : decode cX31_share 11 = .ok (.ldc2_w 129, 3) := dk_20 0 129 (dk_at dksX31_share_0 11 rfl rfl)
theorem dX31_share_14 : decode cX31_share 14 = .ok (.invokestatic 57, 3) := dk_184 0 57 (dk_at dksX31_share_0 14 rfl rfl)
theorem dX31_share_17 : decode cX31_share 17 = .ok (.ifCond .eq 15, 3) := dk_153 0 15 (dk_at dksX31_share_0 17 rfl rfl)
theorem dX31_share_20 : decode cX31_share 20 = .ok (.aload_n 0, 1) := dk_42 (dk_at dksX31_share_0 20 rfl rfl)
theorem dX31_share_21 : decode cX31_share 21 = .ok (.getfield 18, 3) := dk_180 0 18 (dk_at dksX31_share_0 21 rfl rfl)
theorem dX31_share_24 : decode cX31_share 24 = .ok (.iload_n 1, 1) := dk_27 (dk_at dksX31_share_1 0 rfl rfl)
theorem dX31_share_25 : decode cX31_share 25 = .ok (.aaload, 1) := dk_50 (dk_at dksX31_share_1 1 rfl rfl)
theorem dX31_share_26 : decode cX31_share 26 = .ok (.getfield 133, 3) := dk_180 0 133 (dk_at dksX31_share_1 2 rfl rfl)
theorem dX31_share_29 : decode cX31_share 29 = .ok (.ifCond .ne 7, 3) := dk_154 0 7 (dk_at dksX31_share_1 5 rfl rfl)
theorem dX31_share_32 : decode cX31_share 32 = .ok (.ldc2_w 80, 3) := dk_20 0 80 (dk_at dksX31_share_1 8 rfl rfl)
theorem dX31_share_35 : decode cX31_share 35 = .ok (.lreturn, 1) := dk_173 (dk_at dksX31_share_1 11 rfl rfl)
theorem dX31_share_36 : decode cX31_share 36 = .ok (.aload_n 0, 1) := dk_42 (dk_at dksX31_share_1 12 rfl rfl)
theorem dX31_share_37 : decode cX31_share 37 = .ok (.getfield 43, 3) := dk_180 0 43 (dk_at dksX31_share_1 13 rfl rfl)
theorem dX31_share_40 : decode cX31_share 40 = .ok (.aload_n 0, 1) := dk_42 (dk_at dksX31_share_1 16 rfl rfl)
theorem dX31_share_41 : decode cX31_share 41 = .ok (.getfield 18, 3) := dk_180 0 18 (dk_at dksX31_share_1 17 rfl rfl)
theorem dX31_share_44 : decode cX31_share 44 = .ok (.iload_n 1, 1) := dk_27 (dk_at dksX31_share_1 20 rfl rfl)
theorem dX31_share_45 : decode cX31_share 45 = .ok (.aaload, 1) := dk_50 (dk_at dksX31_share_1 21 rfl rfl)
theorem dX31_share_46 : decode cX31_share 46 = .ok (.getfield 142, 3) := dk_180 0 142 (dk_at dksX31_share_2 0 rfl rfl)
theorem dX31_share_49 : decode cX31_share 49 = .ok (.iload_n 2, 1) := dk_28 (dk_at dksX31_share_2 3 rfl rfl)
theorem dX31_share_50 : decode cX31_share 50 = .ok (.laload, 1) := dk_47 (dk_at dksX31_share_2 4 rfl rfl)
theorem dX31_share_51 : decode cX31_share 51 = .ok (.aload_n 0, 1) := dk_42 (dk_at dksX31_share_2 5 rfl rfl)
theorem dX31_share_52 : decode cX31_share 52 = .ok (.getfield 18, 3) := dk_180 0 18 (dk_at dksX31_share_2 6 rfl rfl)
theorem dX31_share_55 : decode cX31_share 55 = .ok (.iload_n 1, 1) := dk_27 (dk_at dksX31_share_2 9 rfl rfl)
theorem dX31_share_56 : decode cX31_share 56 = .ok (.aaload, 1) := dk_50 (dk_at dksX31_share_2 10 rfl rfl)
theorem dX31_share_57 : decode cX31_share 57 = .ok (.getfield 145, 3) := dk_180 0 145 (dk_at dksX31_share_2 11 rfl rfl)
theorem dX31_share_60 : decode cX31_share 60 = .ok (.invokevirtual 67, 3) := dk_182 0 67 (dk_at dksX31_share_2 14 rfl rfl)
theorem dX31_share_63 : decode cX31_share 63 = .ok (.aload_n 0, 1) := dk_42 (dk_at dksX31_share_2 17 rfl rfl)
theorem dX31_share_64 : decode cX31_share 64 = .ok (.getfield 43, 3) := dk_180 0 43 (dk_at dksX31_share_2 18 rfl rfl)
theorem dX31_share_67 : decode cX31_share 67 = .ok (.iload_n 3, 1) := dk_29 (dk_at dksX31_share_2 21 rfl rfl)
theorem dX31_share_68 : decode cX31_share 68 = .ok (.invokevirtual 86, 3) := dk_182 0 86 (dk_at dksX31_share_3 0 rfl rfl)
theorem dX31_share_71 : decode cX31_share 71 = .ok (.lreturn, 1) := dk_173 (dk_at dksX31_share_3 3 rfl rfl)
abbrev cX31_plan : ByteArray := prog_32_method_4_code
def yX31_plan : MethodName := ⟨RX31, "plan", "(II)I"⟩
def dkwX31_plan_2 : List UInt8 := [42, 180, 0, 61, 28, 79, 42, 89, 180, 0, 61, 90, 4, 96, 181, 0, 61, 172]
abbrev dktX31_plan_2 : List UInt8 := dkwX31_plan_2 ++ []
def dkwX31_plan_1 : List UInt8 := [27, 133, 184, 0, 57, 154, 0, 5, 2, 172, 42, 180, 0, 7, 42, 180, 0, 61, 27, 79, 42, 180, 0, 13]
abbrev dktX31_plan_1 : List UInt8 := dkwX31_plan_1 ++ dktX31_plan_2
def dkwX31_plan_0 : List UInt8 := [42, 180, 0, 61, 16, 20, 159, 0, 26, 27, 133, 10, 20, 0, 65, 184, 0, 57, 153, 0, 14, 28, 133, 9]
abbrev dktX31_plan_0 : List UInt8 := dkwX31_plan_0 ++ dktX31_plan_1
theorem dksX31_plan_0 : cX31_plan.data.toList.drop 0 = dktX31_plan_0 := by decide +kernel
theorem dksX31_plan_1 : cX31_plan.data.toList.drop 24 = dktX31_plan_1 := dk_seg dksX31_plan_0 24 rfl rfl
theorem dksX31_plan_2 : cX31_plan.data.toList.drop 48 = dktX31_plan_2 := dk_seg dksX31_plan_1 24 rfl rfl
theorem dX31_plan_0 : decode cX31_plan 0 = .ok (.aload_n 0, 1) := dk_42 (dk_at dksX31_plan_0 0 rfl rfl)
theorem dX31_plan_1 : decode cX31_plan 1 = .ok (.getfield 61, 3) := dk_180 0 61 (dk_at dksX31_plan_0 1 rfl rfl)
theorem dX31_plan_4 : decode cX31_plan 4 = .ok (.bipush 20, 2) := dk_16 20 (dk_at dksX31_plan_0 4 rfl rfl)
theorem dX31_plan_6 : decode cX31_plan 6 = .ok (.if_icmp .eq 26, 3) := dk_159 0 26 (dk_at dksX31_plan_0 6 rfl rfl)
theorem dX31_plan_9 : decode cX31_plan 9 = .ok (.iload_n 1, 1) := dk_27 (dk_at dksX31_plan_0 9 rfl rfl)
theorem dX31_plan_10 : decode cX31_plan 10 = .ok (.i2l, 1) := dk_133 (dk_at dksX31_plan_0 10 rfl rfl)
theorem dX31_plan_11 : decode cX31_plan 11 = .ok (.lconst 1, 1) := dk_10 (dk_at dksX31_plan_0 11 rfl rfl)
theorem dX31_plan_12 : decode cX31_plan 12 = .ok (.ldc2_w 65, 3) := dk_20 0 65 (dk_at dksX31_plan_0 12 rfl rfl)
theorem dX31_plan_15 : decode cX31_plan 15 = .ok (.invokestatic 57, 3) := dk_184 0 57 (dk_at dksX31_plan_0 15 rfl rfl)
theorem dX31_plan_18 : decode cX31_plan 18 = .ok (.ifCond .eq 14, 3) := dk_153 0 14 (dk_at dksX31_plan_0 18 rfl rfl)
theorem dX31_plan_21 : decode cX31_plan 21 = .ok (.iload_n 2, 1) := dk_28 (dk_at dksX31_plan_0 21 rfl rfl)
theorem dX31_plan_22 : decode cX31_plan 22 = .ok (.i2l, 1) := dk_133 (dk_at dksX31_plan_0 22 rfl rfl)
theorem dX31_plan_23 : decode cX31_plan 23 = .ok (.lconst 0, 1) := dk_9 (dk_at dksX31_plan_0 23 rfl rfl)
theorem dX31_plan_24 : decode cX31_plan 24 = .ok (.iload_n 1, 1) := dk_27 (dk_at dksX31_plan_1 0 rfl rfl)
theorem dX31_plan_25 : decode cX31_plan 25 = .ok (.i2l, 1) := dk_133 (dk_at dksX31_plan_1 1 rfl rfl)
theorem dX31_plan_26 : decode cX31_plan 26 = .ok (.invokestatic 57, 3) := dk_184 0 57 (dk_at dksX31_plan_1 2 rfl rfl)
theorem dX31_plan_29 : decode cX31_plan 29 = .ok (.ifCond .ne 5, 3) := dk_154 0 5 (dk_at dksX31_plan_1 5 rfl rfl)
theorem dX31_plan_32 : decode cX31_plan 32 = .ok (.iconst (-1), 1) := dk_2 (dk_at dksX31_plan_1 8 rfl rfl)
theorem dX31_plan_33 : decode cX31_plan 33 = .ok (.ireturn, 1) := dk_172 (dk_at dksX31_plan_1 9 rfl rfl)
theorem dX31_plan_34 : decode cX31_plan 34 = .ok (.aload_n 0, 1) := dk_42 (dk_at dksX31_plan_1 10 rfl rfl)
theorem dX31_plan_35 : decode cX31_plan 35 = .ok (.getfield 7, 3) := dk_180 0 7 (dk_at dksX31_plan_1 11 rfl rfl)
theorem dX31_plan_38 : decode cX31_plan 38 = .ok (.aload_n 0, 1) := dk_42 (dk_at dksX31_plan_1 14 rfl rfl)
theorem dX31_plan_39 : decode cX31_plan 39 = .ok (.getfield 61, 3) := dk_180 0 61 (dk_at dksX31_plan_1 15 rfl rfl)
theorem dX31_plan_42 : decode cX31_plan 42 = .ok (.iload_n 1, 1) := dk_27 (dk_at dksX31_plan_1 18 rfl rfl)
theorem dX31_plan_43 : decode cX31_plan 43 = .ok (.iastore, 1) := dk_79 (dk_at dksX31_plan_1 19 rfl rfl)
theorem dX31_plan_44 : decode cX31_plan 44 = .ok (.aload_n 0, 1) := dk_42 (dk_at dksX31_plan_1 20 rfl rfl)
theorem dX31_plan_45 : decode cX31_plan 45 = .ok (.getfield 13, 3) := dk_180 0 13 (dk_at dksX31_plan_1 21 rfl rfl)
theorem dX31_plan_48 : decode cX31_plan 48 = .ok (.aload_n 0, 1) := dk_42 (dk_at dksX31_plan_2 0 rfl rfl)
theorem dX31_plan_49 : decode cX31_plan 49 = .ok (.getfield 61, 3) := dk_180 0 61 (dk_at dksX31_plan_2 1 rfl rfl)
theorem dX31_plan_52 : decode cX31_plan 52 = .ok (.iload_n 2, 1) := dk_28 (dk_at dksX31_plan_2 4 rfl rfl)
theorem dX31_plan_53 : decode cX31_plan 53 = .ok (.iastore, 1) := dk_79 (dk_at dksX31_plan_2 5 rfl rfl)
theorem dX31_plan_54 : decode cX31_plan 54 = .ok (.aload_n 0, 1) := dk_42 (dk_at dksX31_plan_2 6 rfl rfl)
theorem dX31_plan_55 : decode cX31_plan 55 = .ok (.dup, 1) := dk_89 (dk_at dksX31_plan_2 7 rfl rfl)
theorem dX31_plan_56 : decode cX31_plan 56 = .ok (.getfield 61, 3) := dk_180 0 61 (dk_at dksX31_plan_2 8 rfl rfl)
theorem dX31_plan_59 : decode cX31_plan 59 = .ok (.dup_x1, 1) := dk_90 (dk_at dksX31_plan_2 11 rfl rfl)
theorem dX31_plan_60 : decode cX31_plan 60 = .ok (.iconst 1, 1) := dk_4 (dk_at dksX31_plan_2 12 rfl rfl)
theorem dX31_plan_61 : decode cX31_plan 61 = .ok (.iadd, 1) := dk_96 (dk_at dksX31_plan_2 13 rfl rfl)
theorem dX31_plan_62 : decode cX31_plan 62 = .ok (.putfield 61, 3) := dk_181 0 61 (dk_at dksX31_plan_2 14 rfl rfl)
theorem dX31_plan_65 : decode cX31_plan 65 = .ok (.ireturn, 1) := dk_172 (dk_at dksX31_plan_2 17 rfl rfl)
abbrev cX31_odds : ByteArray := prog_32_method_7_code
def yX31_odds : MethodName := ⟨RX31, "odds", "(IJJI)J"⟩
def dkwX31_odds_2 : List UInt8 := [180, 0, 43, 21, 6, 182, 0, 86, 173]
abbrev dktX31_odds_2 : List UInt8 := dkwX31_odds_2 ++ []
def dkwX31_odds_1 : List UInt8 := [42, 42, 180, 0, 7, 27, 46, 42, 180, 0, 13, 27, 46, 32, 22, 4, 42, 180, 0, 43, 182, 0, 82, 42]
abbrev dktX31_odds_1 : List UInt8 := dkwX31_odds_1 ++ dktX31_odds_2
def dkwX31_odds_0 : List UInt8 := [42, 27, 182, 0, 71, 153, 0, 15, 32, 22, 4, 20, 0, 75, 184, 0, 77, 154, 0, 7, 20, 0, 80, 173]
abbrev dktX31_odds_0 : List UInt8 := dkwX31_odds_0 ++ dktX31_odds_1
theorem dksX31_odds_0 : cX31_odds.data.toList.drop 0 = dktX31_odds_0 := by decide +kernel
theorem dksX31_odds_1 : cX31_odds.data.toList.drop 24 = dktX31_odds_1 := dk_seg dksX31_odds_0 24 rfl rfl
theorem dksX31_odds_2 : cX31_odds.data.toList.drop 48 = dktX31_odds_2 := dk_seg dksX31_odds_1 24 rfl rfl
theorem dX31_odds_0 : decode cX31_odds 0 = .ok (.aload_n 0, 1) := dk_42 (dk_at dksX31_odds_0 0 rfl rfl)
theorem dX31_odds_1 : decode cX31_odds 1 = .ok (.iload_n 1, 1) := dk_27 (dk_at dksX31_odds_0 1 rfl rfl)
theorem dX31_odds_2 : decode cX31_odds 2 = .ok (.invokevirtual 71, 3) := dk_182 0 71 (dk_at dksX31_odds_0 2 rfl rfl)
theorem dX31_odds_5 : decode cX31_odds 5 = .ok (.ifCond .eq 15, 3) := dk_153 0 15 (dk_at dksX31_odds_0 5 rfl rfl)
theorem dX31_odds_8 : decode cX31_odds 8 = .ok (.lload_n 2, 1) := dk_32 (dk_at dksX31_odds_0 8 rfl rfl)
theorem dX31_odds_9 : decode cX31_odds 9 = .ok (.lload 4, 2) := dk_22 4 (dk_at dksX31_odds_0 9 rfl rfl)
theorem dX31_odds_11 : decode cX31_odds 11 = .ok (.ldc2_w 75, 3) := dk_20 0 75 (dk_at dksX31_odds_0 11 rfl rfl)
theorem dX31_odds_14 : decode cX31_odds 14 = .ok (.invokestatic 77, 3) := dk_184 0 77 (dk_at dksX31_odds_0 14 rfl rfl)
theorem dX31_odds_17 : decode cX31_odds 17 = .ok (.ifCond .ne 7, 3) := dk_154 0 7 (dk_at dksX31_odds_0 17 rfl rfl)
theorem dX31_odds_20 : decode cX31_odds 20 = .ok (.ldc2_w 80, 3) := dk_20 0 80 (dk_at dksX31_odds_0 20 rfl rfl)
theorem dX31_odds_23 : decode cX31_odds 23 = .ok (.lreturn, 1) := dk_173 (dk_at dksX31_odds_0 23 rfl rfl)
theorem dX31_odds_24 : decode cX31_odds 24 = .ok (.aload_n 0, 1) := dk_42 (dk_at dksX31_odds_1 0 rfl rfl)
theorem dX31_odds_25 : decode cX31_odds 25 = .ok (.aload_n 0, 1) := dk_42 (dk_at dksX31_odds_1 1 rfl rfl)
theorem dX31_odds_26 : decode cX31_odds 26 = .ok (.getfield 7, 3) := dk_180 0 7 (dk_at dksX31_odds_1 2 rfl rfl)
theorem dX31_odds_29 : decode cX31_odds 29 = .ok (.iload_n 1, 1) := dk_27 (dk_at dksX31_odds_1 5 rfl rfl)
theorem dX31_odds_30 : decode cX31_odds 30 = .ok (.iaload, 1) := dk_46 (dk_at dksX31_odds_1 6 rfl rfl)
theorem dX31_odds_31 : decode cX31_odds 31 = .ok (.aload_n 0, 1) := dk_42 (dk_at dksX31_odds_1 7 rfl rfl)
theorem dX31_odds_32 : decode cX31_odds 32 = .ok (.getfield 13, 3) := dk_180 0 13 (dk_at dksX31_odds_1 8 rfl rfl)
theorem dX31_odds_35 : decode cX31_odds 35 = .ok (.iload_n 1, 1) := dk_27 (dk_at dksX31_odds_1 11 rfl rfl)
theorem dX31_odds_36 : decode cX31_odds 36 = .ok (.iaload, 1) := dk_46 (dk_at dksX31_odds_1 12 rfl rfl)
theorem dX31_odds_37 : decode cX31_odds 37 = .ok (.lload_n 2, 1) := dk_32 (dk_at dksX31_odds_1 13 rfl rfl)
theorem dX31_odds_38 : decode cX31_odds 38 = .ok (.lload 4, 2) := dk_22 4 (dk_at dksX31_odds_1 14 rfl rfl)
theorem dX31_odds_40 : decode cX31_odds 40 = .ok (.aload_n 0, 1) := dk_42 (dk_at dksX31_odds_1 16 rfl rfl)
theorem dX31_odds_41 : decode cX31_odds 41 = .ok (.getfield 43, 3) := dk_180 0 43 (dk_at dksX31_odds_1 17 rfl rfl)
theorem dX31_odds_44 : decode cX31_odds 44 = .ok (.invokevirtual 82, 3) := dk_182 0 82 (dk_at dksX31_odds_1 20 rfl rfl)
theorem dX31_odds_47 : decode cX31_odds 47 = .ok (.aload_n 0, 1) := dk_42 (dk_at dksX31_odds_1 23 rfl rfl)
theorem dX31_odds_48 : decode cX31_odds 48 = .ok (.getfield 43, 3) := dk_180 0 43 (dk_at dksX31_odds_2 0 rfl rfl)
theorem dX31_odds_51 : decode cX31_odds 51 = .ok (.iload 6, 2) := dk_21 6 (dk_at dksX31_odds_2 3 rfl rfl)
theorem dX31_odds_53 : decode cX31_odds 53 = .ok (.invokevirtual 86, 3) := dk_182 0 86 (dk_at dksX31_odds_2 5 rfl rfl)
theorem dX31_odds_56 : decode cX31_odds 56 = .ok (.lreturn, 1) := dk_173 (dk_at dksX31_odds_2 8 rfl rfl)
abbrev cX31_isPlan : ByteArray := prog_32_method_6_code
def yX31_isPlan : MethodName := ⟨RX31, "isPlan", "(I)Z"⟩
def dkwX31_isPlan_0 : List UInt8 := [27, 155, 0, 15, 27, 42, 180, 0, 61, 162, 0, 7, 4, 167, 0, 4, 3, 172]
abbrev dktX31_isPlan_0 : List UInt8 := dkwX31_isPlan_0 ++ []
theorem dksX31_isPlan_0 : cX31_isPlan.data.toList.drop 0 = dktX31_isPlan_0 := by decide +kernel
theorem dX31_isPlan_0 : decode cX31_isPlan 0 = .ok (.iload_n 1, 1) := dk_27 (dk_at dksX31_isPlan_0 0 rfl rfl)
theorem dX31_isPlan_1 : decode cX31_isPlan 1 = .ok (.ifCond .lt 15, 3) := dk_155 0 15 (dk_at dksX31_isPlan_0 1 rfl rfl)
theorem dX31_isPlan_4 : decode cX31_isPlan 4 = .ok (.iload_n 1, 1) := dk_27 (dk_at dksX31_isPlan_0 4 rfl rfl)
theorem dX31_isPlan_5 : decode cX31_isPlan 5 = .ok (.aload_n 0, 1) := dk_42 (dk_at dksX31_isPlan_0 5 rfl rfl)
theorem dX31_isPlan_6 : decode cX31_isPlan 6 = .ok (.getfield 61, 3) := dk_180 0 61 (dk_at dksX31_isPlan_0 6 rfl rfl)
theorem dX31_isPlan_9 : decode cX31_isPlan 9 = .ok (.if_icmp .ge 7, 3) := dk_162 0 7 (dk_at dksX31_isPlan_0 9 rfl rfl)
theorem dX31_isPlan_12 : decode cX31_isPlan 12 = .ok (.iconst 1, 1) := dk_4 (dk_at dksX31_isPlan_0 12 rfl rfl)
theorem dX31_isPlan_13 : decode cX31_isPlan 13 = .ok (.goto 4, 3) := dk_167 0 4 (dk_at dksX31_isPlan_0 13 rfl rfl)
theorem dX31_isPlan_16 : decode cX31_isPlan 16 = .ok (.iconst 0, 1) := dk_3 (dk_at dksX31_isPlan_0 16 rfl rfl)
theorem dX31_isPlan_17 : decode cX31_isPlan 17 = .ok (.ireturn, 1) := dk_172 (dk_at dksX31_isPlan_0 17 rfl rfl)
abbrev cX31_isShare : ByteArray := prog_32_method_3_code
def yX31_isShare : MethodName := ⟨RX31, "isShare", "(JJJ)Z"⟩
def dkwX31_isShare_1 : List UInt8 := [172]
abbrev dktX31_isShare_1 : List UInt8 := dkwX31_isShare_1 ++ []
def dkwX31_isShare_0 : List UInt8 := [32, 10, 22, 4, 184, 0, 57, 153, 0, 16, 30, 9, 32, 184, 0, 57, 153, 0, 7, 4, 167, 0, 4, 3]
abbrev dktX31_isShare_0 : List UInt8 := dkwX31_isShare_0 ++ dktX31_isShare_1
theorem dksX31_isShare_0 : cX31_isShare.data.toList.drop 0 = dktX31_isShare_0 := by decide +kernel
theorem dksX31_isShare_1 : cX31_isShare.data.toList.drop 24 = dktX31_isShare_1 := dk_seg dksX31_isShare_0 24 rfl rfl
theorem dX31_isShare_0 : decode cX31_isShare 0 = .ok (.lload_n 2, 1) := dk_32 (dk_at dksX31_isShare_0 0 rfl rfl)
theorem dX31_isShare_1 : decode cX31_isShare 1 = .ok (.lconst 1, 1) := dk_10 (dk_at dksX31_isShare_0 1 rfl rfl)
theorem dX31_isShare_2 : decode cX31_isShare 2 = .ok (.lload 4, 2) := dk_22 4 (dk_at dksX31_isShare_0 2 rfl rfl)
theorem dX31_isShare_4 : decode cX31_isShare 4 = .ok (.invokestatic 57, 3) := dk_184 0 57 (dk_at dksX31_isShare_0 4 rfl rfl)
theorem dX31_isShare_7 : decode cX31_isShare 7 = .ok (.ifCond .eq 16, 3) := dk_153 0 16 (dk_at dksX31_isShare_0 7 rfl rfl)
theorem dX31_isShare_10 : decode cX31_isShare 10 = .ok (.lload_n 0, 1) := dk_30 (dk_at dksX31_isShare_0 10 rfl rfl)
theorem dX31_isShare_11 : decode cX31_isShare 11 = .ok (.lconst 0, 1) := dk_9 (dk_at dksX31_isShare_0 11 rfl rfl)
theorem dX31_isShare_12 : decode cX31_isShare 12 = .ok (.lload_n 2, 1) := dk_32 (dk_at dksX31_isShare_0 12 rfl rfl)
theorem dX31_isShare_13 : decode cX31_isShare 13 = .ok (.invokestatic 57, 3) := dk_184 0 57 (dk_at dksX31_isShare_0 13 rfl rfl)
theorem dX31_isShare_16 : decode cX31_isShare 16 = .ok (.ifCond .eq 7, 3) := dk_153 0 7 (dk_at dksX31_isShare_0 16 rfl rfl)
theorem dX31_isShare_19 : decode cX31_isShare 19 = .ok (.iconst 1, 1) := dk_4 (dk_at dksX31_isShare_0 19 rfl rfl)
theorem dX31_isShare_20 : decode cX31_isShare 20 = .ok (.goto 4, 3) := dk_167 0 4 (dk_at dksX31_isShare_0 20 rfl rfl)
theorem dX31_isShare_23 : decode cX31_isShare 23 = .ok (.iconst 0, 1) := dk_3 (dk_at dksX31_isShare_0 23 rfl rfl)
theorem dX31_isShare_24 : decode cX31_isShare 24 = .ok (.ireturn, 1) := dk_172 (dk_at dksX31_isShare_1 0 rfl rfl)
abbrev cX31_pass : ByteArray := prog_32_method_5_code
def yX31_pass : MethodName := ⟨RX31, "pass", "(IIJJLWasteHouse$PurityOdds$Ratio;)V"⟩
def dkwX31_pass_4 : List UInt8 := [55, 8, 132, 10, 1, 167, 255, 186, 25, 7, 42, 180, 0, 39, 28, 47, 22, 8, 182, 0, 67, 177]
abbrev dktX31_pass_4 : List UInt8 := dkwX31_pass_4 ++ []
def dkwX31_pass_3 : List UInt8 := [21, 11, 4, 100, 47, 33, 105, 167, 0, 4, 9, 97, 80, 132, 11, 255, 167, 255, 208, 22, 8, 22, 5, 105]
abbrev dktX31_pass_3 : List UInt8 := dkwX31_pass_3 ++ dktX31_pass_4
def dkwX31_pass_2 : List UInt8 := [21, 11, 42, 180, 0, 39, 21, 11, 47, 22, 5, 33, 101, 105, 21, 11, 158, 0, 17, 42, 180, 0, 39]
abbrev dktX31_pass_2 : List UInt8 := dkwX31_pass_2 ++ dktX31_pass_3
def dkwX31_pass_1 : List UInt8 := [55, 8, 3, 54, 10, 21, 10, 27, 162, 0, 70, 28, 54, 11, 21, 11, 155, 0, 49, 42, 180, 0, 39]
abbrev dktX31_pass_1 : List UInt8 := dkwX31_pass_1 ++ dktX31_pass_2
def dkwX31_pass_0 : List UInt8 := [3, 54, 8, 21, 8, 28, 163, 0, 17, 42, 180, 0, 39, 21, 8, 10, 80, 132, 8, 1, 167, 255, 239, 10]
abbrev dktX31_pass_0 : List UInt8 := dkwX31_pass_0 ++ dktX31_pass_1
theorem dksX31_pass_0 : cX31_pass.data.toList.drop 0 = dktX31_pass_0 := by decide +kernel
theorem dksX31_pass_1 : cX31_pass.data.toList.drop 24 = dktX31_pass_1 := dk_seg dksX31_pass_0 24 rfl rfl
theorem dksX31_pass_2 : cX31_pass.data.toList.drop 47 = dktX31_pass_2 := dk_seg dksX31_pass_1 23 rfl rfl
theorem dksX31_pass_3 : cX31_pass.data.toList.drop 70 = dktX31_pass_3 := dk_seg dksX31_pass_2 23 rfl rfl
theorem dksX31_pass_4 : cX31_pass.data.toList.drop 94 = dktX31_pass_4 := dk_seg dksX31_pass_3 24 rfl rfl
theorem dX31_pass_0 : decode cX31_pass 0 = .ok (.iconst 0, 1) := dk_3 (dk_at dksX31_pass_0 0 rfl rfl)
theorem dX31_pass_1 : decode cX31_pass 1 = .ok (.istore 8, 2) := dk_54 8 (dk_at dksX31_pass_0 1 rfl rfl)
theorem dX31_pass_3 : decode cX31_pass 3 = .ok (.iload 8, 2) := dk_21 8 (dk_at dksX31_pass_0 3 rfl rfl)
theorem dX31_pass_5 : decode cX31_pass 5 = .ok (.iload_n 2, 1) := dk_28 (dk_at dksX31_pass_0 5 rfl rfl)
theorem dX31_pass_6 : decode cX31_pass 6 = .ok (.if_icmp .gt 17, 3) := dk_163 0 17 (dk_at dksX31_pass_0 6 rfl rfl)
theorem dX31_pass_9 : decode cX31_pass 9 = .ok (.aload_n 0, 1) := dk_42 (dk_at dksX31_pass_0 9 rfl rfl)
theorem dX31_pass_10 : decode cX31_pass 10 = .ok (.getfield 39, 3) := dk_180 0 39 (dk_at dksX31_pass_0 10 rfl rfl)
theorem dX31_pass_13 : decode cX31_pass 13 = .ok (.iload 8, 2) := dk_21 8 (dk_at dksX31_pass_0 13 rfl rfl)
theorem dX31_pass_15 : decode cX31_pass 15 = .ok (.lconst 1, 1) := dk_10 (dk_at dksX31_pass_0 15 rfl rfl)
theorem dX31_pass_16 : decode cX31_pass 16 = .ok (.lastore, 1) := dk_80 (dk_at dksX31_pass_0 16 rfl rfl)
theorem dX31_pass_17 : decode cX31_pass 17 = .ok (.iinc 8 1, 3) := dk_132 8 1 (dk_at dksX31_pass_0 17 rfl rfl)
theorem dX31_pass_20 : decode cX31_pass 20 = .ok (.goto (-17), 3) := dk_167 255 239 (dk_at dksX31_pass_0 20 rfl rfl)
theorem dX31_pass_23 : decode cX31_pass 23 = .ok (.lconst 1, 1) := dk_10 (dk_at dksX31_pass_0 23 rfl rfl)
theorem dX31_pass_24 : decode cX31_pass 24 = .ok (.lstore 8, 2) := dk_55 8 (dk_at dksX31_pass_1 0 rfl rfl)
theorem dX31_pass_26 : decode cX31_pass 26 = .ok (.iconst 0, 1) := dk_3 (dk_at dksX31_pass_1 2 rfl rfl)
theorem dX31_pass_27 : decode cX31_pass 27 = .ok (.istore 10, 2) := dk_54 10 (dk_at dksX31_pass_1 3 rfl rfl)
theorem dX31_pass_29 : decode cX31_pass 29 = .ok (.iload 10, 2) := dk_21 10 (dk_at dksX31_pass_1 5 rfl rfl)
theorem dX31_pass_31 : decode cX31_pass 31 = .ok (.iload_n 1, 1) := dk_27 (dk_at dksX31_pass_1 7 rfl rfl)
theorem dX31_pass_32 : decode cX31_pass 32 = .ok (.if_icmp .ge 70, 3) := dk_162 0 70 (dk_at dksX31_pass_1 8 rfl rfl)
theorem dX31_pass_35 : decode cX31_pass 35 = .ok (.iload_n 2, 1) := dk_28 (dk_at dksX31_pass_1 11 rfl rfl)
theorem dX31_pass_36 : decode cX31_pass 36 = .ok (.istore 11, 2) := dk_54 11 (dk_at dksX31_pass_1 12 rfl rfl)
theorem dX31_pass_38 : decode cX31_pass 38 = .ok (.iload 11, 2) := dk_21 11 (dk_at dksX31_pass_1 14 rfl rfl)
theorem dX31_pass_40 : decode cX31_pass 40 = .ok (.ifCond .lt 49, 3) := dk_155 0 49 (dk_at dksX31_pass_1 16 rfl rfl)
theorem dX31_pass_43 : decode cX31_pass 43 = .ok (.aload_n 0, 1) := dk_42 (dk_at dksX31_pass_1 19 rfl rfl)
theorem dX31_pass_44 : decode cX31_pass 44 = .ok (.getfield 39, 3) := dk_180 0 39 (dk_at dksX31_pass_1 20 rfl rfl)
theorem dX31_pass_47 : decode cX31_pass 47 = .ok (.iload 11, 2) := dk_21 11 (dk_at dksX31_pass_2 0 rfl rfl)
theorem dX31_pass_49 : decode cX31_pass 49 = .ok (.aload_n 0, 1) := dk_42 (dk_at dksX31_pass_2 2 rfl rfl)
theorem dX31_pass_50 : decode cX31_pass 50 = .ok (.getfield 39, 3) := dk_180 0 39 (dk_at dksX31_pass_2 3 rfl rfl)
theorem dX31_pass_53 : decode cX31_pass 53 = .ok (.iload 11, 2) := dk_21 11 (dk_at dksX31_pass_2 6 rfl rfl)
theorem dX31_pass_55 : decode cX31_pass 55 = .ok (.laload, 1) := dk_47 (dk_at dksX31_pass_2 8 rfl rfl)
theorem dX31_pass_56 : decode cX31_pass 56 = .ok (.lload 5, 2) := dk_22 5 (dk_at dksX31_pass_2 9 rfl rfl)
theorem dX31_pass_58 : decode cX31_pass 58 = .ok (.lload_n 3, 1) := dk_33 (dk_at dksX31_pass_2 11 rfl rfl)
theorem dX31_pass_59 : decode cX31_pass 59 = .ok (.lsub, 1) := dk_101 (dk_at dksX31_pass_2 12 rfl rfl)
theorem dX31_pass_60 : decode cX31_pass 60 = .ok (.lmul, 1) := dk_105 (dk_at dksX31_pass_2 13 rfl rfl)
theorem dX31_pass_61 : decode cX31_pass 61 = .ok (.iload 11, 2) := dk_21 11 (dk_at dksX31_pass_2 14 rfl rfl)
theorem dX31_pass_63 : decode cX31_pass 63 = .ok (.ifCond .le 17, 3) := dk_158 0 17 (dk_at dksX31_pass_2 16 rfl rfl)
theorem dX31_pass_66 : decode cX31_pass 66 = .ok (.aload_n 0, 1) := dk_42 (dk_at dksX31_pass_2 19 rfl rfl)
theorem dX31_pass_67 : decode cX31_pass 67 = .ok (.getfield 39, 3) := dk_180 0 39 (dk_at dksX31_pass_2 20 rfl rfl)
theorem dX31_pass_70 : decode cX31_pass 70 = .ok (.iload 11, 2) := dk_21 11 (dk_at dksX31_pass_3 0 rfl rfl)
theorem dX31_pass_72 : decode cX31_pass 72 = .ok (.iconst 1, 1) := dk_4 (dk_at dksX31_pass_3 2 rfl rfl)
theorem dX31_pass_73 : decode cX31_pass 73 = .ok (.isub, 1) := dk_100 (dk_at dksX31_pass_3 3 rfl rfl)
theorem dX31_pass_74 : decode cX31_pass 74 = .ok (.laload, 1) := dk_47 (dk_at dksX31_pass_3 4 rfl rfl)
theorem dX31_pass_75 : decode cX31_pass 75 = .ok (.lload_n 3, 1) := dk_33 (dk_at dksX31_pass_3 5 rfl rfl)
theorem dX31_pass_76 : decode cX31_pass 76 = .ok (.lmul, 1) := dk_105 (dk_at dksX31_pass_3 6 rfl rfl)
theorem dX31_pass_77 : decode cX31_pass 77 = .ok (.goto 4, 3) := dk_167 0 4 (dk_at dksX31_pass_3 7 rfl rfl)
theorem dX31_pass_80 : decode cX31_pass 80 = .ok (.lconst 0, 1) := dk_9 (dk_at dksX31_pass_3 10 rfl rfl)
theorem dX31_pass_81 : decode cX31_pass 81 = .ok (.ladd, 1) := dk_97 (dk_at dksX31_pass_3 11 rfl rfl)
theorem dX31_pass_82 : decode cX31_pass 82 = .ok (.lastore, 1) := dk_80 (dk_at dksX31_pass_3 12 rfl rfl)
theorem dX31_pass_83 : decode cX31_pass 83 = .ok (.iinc 11 (-1), 3) := dk_132 11 255 (dk_at dksX31_pass_3 13 rfl rfl)
theorem dX31_pass_86 : decode cX31_pass 86 = .ok (.goto (-48), 3) := dk_167 255 208 (dk_at dksX31_pass_3 16 rfl rfl)
theorem dX31_pass_89 : decode cX31_pass 89 = .ok (.lload 8, 2) := dk_22 8 (dk_at dksX31_pass_3 19 rfl rfl)
theorem dX31_pass_91 : decode cX31_pass 91 = .ok (.lload 5, 2) := dk_22 5 (dk_at dksX31_pass_3 21 rfl rfl)
theorem dX31_pass_93 : decode cX31_pass 93 = .ok (.lmul, 1) := dk_105 (dk_at dksX31_pass_3 23 rfl rfl)
theorem dX31_pass_94 : decode cX31_pass 94 = .ok (.lstore 8, 2) := dk_55 8 (dk_at dksX31_pass_4 0 rfl rfl)
theorem dX31_pass_96 : decode cX31_pass 96 = .ok (.iinc 10 1, 3) := dk_132 10 1 (dk_at dksX31_pass_4 2 rfl rfl)
theorem dX31_pass_99 : decode cX31_pass 99 = .ok (.goto (-70), 3) := dk_167 255 186 (dk_at dksX31_pass_4 5 rfl rfl)
theorem dX31_pass_102 : decode cX31_pass 102 = .ok (.aload 7, 2) := dk_25 7 (dk_at dksX31_pass_4 8 rfl rfl)
theorem dX31_pass_104 : decode cX31_pass 104 = .ok (.aload_n 0, 1) := dk_42 (dk_at dksX31_pass_4 10 rfl rfl)
theorem dX31_pass_105 : decode cX31_pass 105 = .ok (.getfield 39, 3) := dk_180 0 39 (dk_at dksX31_pass_4 11 rfl rfl)
theorem dX31_pass_108 : decode cX31_pass 108 = .ok (.iload_n 2, 1) := dk_28 (dk_at dksX31_pass_4 14 rfl rfl)
theorem dX31_pass_109 : decode cX31_pass 109 = .ok (.laload, 1) := dk_47 (dk_at dksX31_pass_4 15 rfl rfl)
theorem dX31_pass_110 : decode cX31_pass 110 = .ok (.lload 8, 2) := dk_22 8 (dk_at dksX31_pass_4 16 rfl rfl)
theorem dX31_pass_112 : decode cX31_pass 112 = .ok (.invokevirtual 67, 3) := dk_182 0 67 (dk_at dksX31_pass_4 18 rfl rfl)
theorem dX31_pass_115 : decode cX31_pass 115 = .ok (.return_, 1) := dk_177 (dk_at dksX31_pass_4 21 rfl rfl)
abbrev cX31_best : ByteArray := prog_32_method_9_code
def yX31_best : MethodName := ⟨RX31, "best", "(IJJJJ)I"⟩
def dkwX31_best_9 : List UInt8 := [167, 255, 151, 132, 12, 1, 167, 255, 136, 42, 21, 10, 21, 11, 182, 0, 108, 172]
abbrev dktX31_best_9 : List UInt8 := dkwX31_best_9 ++ []
def dkwX31_best_8 : List UInt8 := [180, 0, 90, 25, 14, 180, 0, 93, 182, 0, 67, 21, 12, 54, 10, 21, 13, 54, 11, 132, 13, 1]
abbrev dktX31_best_8 : List UInt8 := dkwX31_best_8 ++ dktX31_best_9
def dkwX31_best_7 : List UInt8 := [21, 10, 153, 0, 15, 25, 14, 42, 180, 0, 49, 182, 0, 104, 156, 0, 28, 42, 180, 0, 49, 25, 14]
abbrev dktX31_best_7 : List UInt8 := dkwX31_best_7 ++ dktX31_best_8
def dkwX31_best_6 : List UInt8 := [42, 180, 0, 46, 182, 0, 104, 156, 0, 10, 42, 180, 0, 46, 167, 0, 7, 42, 180, 0, 43, 58, 14]
abbrev dktX31_best_6 : List UInt8 := dkwX31_best_6 ++ dktX31_best_7
def dkwX31_best_5 : List UInt8 := [42, 180, 0, 43, 182, 0, 100, 42, 21, 12, 21, 13, 4, 42, 180, 0, 46, 182, 0, 100, 42, 180, 0, 43]
abbrev dktX31_best_5 : List UInt8 := dkwX31_best_5 ++ dktX31_best_6
def dkwX31_best_4 : List UInt8 := [54, 12, 21, 12, 27, 163, 0, 120, 3, 54, 13, 21, 13, 21, 12, 163, 0, 104, 42, 21, 12, 21, 13, 3]
abbrev dktX31_best_4 : List UInt8 := dkwX31_best_4 ++ dktX31_best_5
def dkwX31_best_3 : List UInt8 := [42, 180, 0, 36, 22, 6, 22, 8, 182, 0, 67, 42, 4, 181, 0, 96, 3, 54, 10, 3, 54, 11, 4]
abbrev dktX31_best_3 : List UInt8 := dkwX31_best_3 ++ dktX31_best_4
def dkwX31_best_2 : List UInt8 := [22, 8, 105, 22, 6, 22, 4, 105, 148, 155, 0, 5, 2, 172, 42, 180, 0, 32, 32, 22, 4, 182, 0, 67]
abbrev dktX31_best_2 : List UInt8 := dkwX31_best_2 ++ dktX31_best_3
def dkwX31_best_1 : List UInt8 := [20, 0, 75, 184, 0, 77, 153, 0, 29, 22, 6, 22, 8, 20, 0, 75, 184, 0, 77, 153, 0, 16, 32]
abbrev dktX31_best_1 : List UInt8 := dkwX31_best_1 ++ dktX31_best_2
def dkwX31_best_0 : List UInt8 := [42, 180, 0, 61, 16, 20, 159, 0, 53, 27, 133, 10, 20, 0, 65, 184, 0, 57, 153, 0, 41, 32, 22, 4]
abbrev dktX31_best_0 : List UInt8 := dkwX31_best_0 ++ dktX31_best_1
theorem dksX31_best_0 : cX31_best.data.toList.drop 0 = dktX31_best_0 := by decide +kernel
theorem dksX31_best_1 : cX31_best.data.toList.drop 24 = dktX31_best_1 := dk_seg dksX31_best_0 24 rfl rfl
theorem dksX31_best_2 : cX31_best.data.toList.drop 47 = dktX31_best_2 := dk_seg dksX31_best_1 23 rfl rfl
theorem dksX31_best_3 : cX31_best.data.toList.drop 71 = dktX31_best_3 := dk_seg dksX31_best_2 24 rfl rfl
theorem dksX31_best_4 : cX31_best.data.toList.drop 94 = dktX31_best_4 := dk_seg dksX31_best_3 23 rfl rfl
theorem dksX31_best_5 : cX31_best.data.toList.drop 118 = dktX31_best_5 := dk_seg dksX31_best_4 24 rfl rfl
theorem dksX31_best_6 : cX31_best.data.toList.drop 142 = dktX31_best_6 := dk_seg dksX31_best_5 24 rfl rfl
theorem dksX31_best_7 : cX31_best.data.toList.drop 165 = dktX31_best_7 := dk_seg dksX31_best_6 23 rfl rfl
theorem dksX31_best_8 : cX31_best.data.toList.drop 188 = dktX31_best_8 := dk_seg dksX31_best_7 23 rfl rfl
theorem dksX31_best_9 : cX31_best.data.toList.drop 210 = dktX31_best_9 := dk_seg dksX31_best_8 22 rfl rfl
theorem dX31_best_0 : decode cX31_best 0 = .ok (.aload_n 0, 1) := dk_42 (dk_at dksX31_best_0 0 rfl rfl)
theorem dX31_best_1 : decode cX31_best 1 = .ok (.getfield 61, 3) := dk_180 0 61 (dk_at dksX31_best_0 1 rfl rfl)
theorem dX31_best_4 : decode cX31_best 4 = .ok (.bipush 20, 2) := dk_16 20 (dk_at dksX31_best_0 4 rfl rfl)
theorem dX31_best_6 : decode cX31_best 6 = .ok (.if_icmp .eq 53, 3) := dk_159 0 53 (dk_at dksX31_best_0 6 rfl rfl)
theorem dX31_best_9 : decode cX31_best 9 = .ok (.iload_n 1, 1) := dk_27 (dk_at dksX31_best_0 9 rfl rfl)
theorem dX31_best_10 : decode cX31_best 10 = .ok (.i2l, 1) := dk_133 (dk_at dksX31_best_0 10 rfl rfl)
theorem dX31_best_11 : decode cX31_best 11 = .ok (.lconst 1, 1) := dk_10 (dk_at dksX31_best_0 11 rfl rfl)
theorem dX31_best_12 : decode cX31_best 12 = .ok (.ldc2_w 65, 3) := dk_20 0 65 (dk_at dksX31_best_0 12 rfl rfl)
theorem dX31_best_15 : decode cX31_best 15 = .ok (.invokestatic 57, 3) := dk_184 0 57 (dk_at dksX31_best_0 15 rfl rfl)
theorem dX31_best_18 : decode cX31_best 18 = .ok (.ifCond .eq 41, 3) := dk_153 0 41 (dk_at dksX31_best_0 18 rfl rfl)
theorem dX31_best_21 : decode cX31_best 21 = .ok (.lload_n 2, 1) := dk_32 (dk_at dksX31_best_0 21 rfl rfl)
theorem dX31_best_22 : decode cX31_best 22 = .ok (.lload 4, 2) := dk_22 4 (dk_at dksX31_best_0 22 rfl rfl)
theorem dX31_best_24 : decode cX31_best 24 = .ok (.ldc2_w 75, 3) := dk_20 0 75 (dk_at dksX31_best_1 0 rfl rfl)
theorem dX31_best_27 : decode cX31_best 27 = .ok (.invokestatic 77, 3) := dk_184 0 77 (dk_at dksX31_best_1 3 rfl rfl)
theorem dX31_best_30 : decode cX31_best 30 = .ok (.ifCond .eq 29, 3) := dk_153 0 29 (dk_at dksX31_best_1 6 rfl rfl)
theorem dX31_best_33 : decode cX31_best 33 = .ok (.lload 6, 2) := dk_22 6 (dk_at dksX31_best_1 9 rfl rfl)
theorem dX31_best_35 : decode cX31_best 35 = .ok (.lload 8, 2) := dk_22 8 (dk_at dksX31_best_1 11 rfl rfl)
theorem dX31_best_37 : decode cX31_best 37 = .ok (.ldc2_w 75, 3) := dk_20 0 75 (dk_at dksX31_best_1 13 rfl rfl)
theorem dX31_best_40 : decode cX31_best 40 = .ok (.invokestatic 77, 3) := dk_184 0 77 (dk_at dksX31_best_1 16 rfl rfl)
theorem dX31_best_43 : decode cX31_best 43 = .ok (.ifCond .eq 16, 3) := dk_153 0 16 (dk_at dksX31_best_1 19 rfl rfl)
theorem dX31_best_46 : decode cX31_best 46 = .ok (.lload_n 2, 1) := dk_32 (dk_at dksX31_best_1 22 rfl rfl)
theorem dX31_best_47 : decode cX31_best 47 = .ok (.lload 8, 2) := dk_22 8 (dk_at dksX31_best_2 0 rfl rfl)
theorem dX31_best_49 : decode cX31_best 49 = .ok (.lmul, 1) := dk_105 (dk_at dksX31_best_2 2 rfl rfl)
theorem dX31_best_50 : decode cX31_best 50 = .ok (.lload 6, 2) := dk_22 6 (dk_at dksX31_best_2 3 rfl rfl)
theorem dX31_best_52 : decode cX31_best 52 = .ok (.lload 4, 2) := dk_22 4 (dk_at dksX31_best_2 5 rfl rfl)
theorem dX31_best_54 : decode cX31_best 54 = .ok (.lmul, 1) := dk_105 (dk_at dksX31_best_2 7 rfl rfl)
theorem dX31_best_55 : decode cX31_best 55 = .ok (.lcmp, 1) := dk_148 (dk_at dksX31_best_2 8 rfl rfl)
theorem dX31_best_56 : decode cX31_best 56 = .ok (.ifCond .lt 5, 3) := dk_155 0 5 (dk_at dksX31_best_2 9 rfl rfl)
theorem dX31_best_59 : decode cX31_best 59 = .ok (.iconst (-1), 1) := dk_2 (dk_at dksX31_best_2 12 rfl rfl)
theorem dX31_best_60 : decode cX31_best 60 = .ok (.ireturn, 1) := dk_172 (dk_at dksX31_best_2 13 rfl rfl)
theorem dX31_best_61 : decode cX31_best 61 = .ok (.aload_n 0, 1) := dk_42 (dk_at dksX31_best_2 14 rfl rfl)
theorem dX31_best_62 : decode cX31_best 62 = .ok (.getfield 32, 3) := dk_180 0 32 (dk_at dksX31_best_2 15 rfl rfl)
theorem dX31_best_65 : decode cX31_best 65 = .ok (.lload_n 2, 1) := dk_32 (dk_at dksX31_best_2 18 rfl rfl)
theorem dX31_best_66 : decode cX31_best 66 = .ok (.lload 4, 2) := dk_22 4 (dk_at dksX31_best_2 19 rfl rfl)
theorem dX31_best_68 : decode cX31_best 68 = .ok (.invokevirtual 67, 3) := dk_182 0 67 (dk_at dksX31_best_2 21 rfl rfl)
theorem dX31_best_71 : decode cX31_best 71 = .ok (.aload_n 0, 1) := dk_42 (dk_at dksX31_best_3 0 rfl rfl)
theorem dX31_best_72 : decode cX31_best 72 = .ok (.getfield 36, 3) := dk_180 0 36 (dk_at dksX31_best_3 1 rfl rfl)
theorem dX31_best_75 : decode cX31_best 75 = .ok (.lload 6, 2) := dk_22 6 (dk_at dksX31_best_3 4 rfl rfl)
theorem dX31_best_77 : decode cX31_best 77 = .ok (.lload 8, 2) := dk_22 8 (dk_at dksX31_best_3 6 rfl rfl)
theorem dX31_best_79 : decode cX31_best 79 = .ok (.invokevirtual 67, 3) := dk_182 0 67 (dk_at dksX31_best_3 8 rfl rfl)
theorem dX31_best_82 : decode cX31_best 82 = .ok (.aload_n 0, 1) := dk_42 (dk_at dksX31_best_3 11 rfl rfl)
theorem dX31_best_83 : decode cX31_best 83 = .ok (.iconst 1, 1) := dk_4 (dk_at dksX31_best_3 12 rfl rfl)
theorem dX31_best_84 : decode cX31_best 84 = .ok (.putfield 96, 3) := dk_181 0 96 (dk_at dksX31_best_3 13 rfl rfl)
theorem dX31_best_87 : decode cX31_best 87 = .ok (.iconst 0, 1) := dk_3 (dk_at dksX31_best_3 16 rfl rfl)
theorem dX31_best_88 : decode cX31_best 88 = .ok (.istore 10, 2) := dk_54 10 (dk_at dksX31_best_3 17 rfl rfl)
theorem dX31_best_90 : decode cX31_best 90 = .ok (.iconst 0, 1) := dk_3 (dk_at dksX31_best_3 19 rfl rfl)
theorem dX31_best_91 : decode cX31_best 91 = .ok (.istore 11, 2) := dk_54 11 (dk_at dksX31_best_3 20 rfl rfl)
theorem dX31_best_93 : decode cX31_best 93 = .ok (.iconst 1, 1) := dk_4 (dk_at dksX31_best_3 22 rfl rfl)
theorem dX31_best_94 : decode cX31_best 94 = .ok (.istore 12, 2) := dk_54 12 (dk_at dksX31_best_4 0 rfl rfl)
theorem dX31_best_96 : decode cX31_best 96 = .ok (.iload 12, 2) := dk_21 12 (dk_at dksX31_best_4 2 rfl rfl)
theorem dX31_best_98 : decode cX31_best 98 = .ok (.iload_n 1, 1) := dk_27 (dk_at dksX31_best_4 4 rfl rfl)
theorem dX31_best_99 : decode cX31_best 99 = .ok (.if_icmp .gt 120, 3) := dk_163 0 120 (dk_at dksX31_best_4 5 rfl rfl)
theorem dX31_best_102 : decode cX31_best 102 = .ok (.iconst 0, 1) := dk_3 (dk_at dksX31_best_4 8 rfl rfl)
theorem dX31_best_103 : decode cX31_best 103 = .ok (.istore 13, 2) := dk_54 13 (dk_at dksX31_best_4 9 rfl rfl)
theorem dX31_best_105 : decode cX31_best 105 = .ok (.iload 13, 2) := dk_21 13 (dk_at dksX31_best_4 11 rfl rfl)
theorem dX31_best_107 : decode cX31_best 107 = .ok (.iload 12, 2) := dk_21 12 (dk_at dksX31_best_4 13 rfl rfl)
theorem dX31_best_109 : decode cX31_best 109 = .ok (.if_icmp .gt 104, 3) := dk_163 0 104 (dk_at dksX31_best_4 15 rfl rfl)
theorem dX31_best_112 : decode cX31_best 112 = .ok (.aload_n 0, 1) := dk_42 (dk_at dksX31_best_4 18 rfl rfl)
theorem dX31_best_113 : decode cX31_best 113 = .ok (.iload 12, 2) := dk_21 12 (dk_at dksX31_best_4 19 rfl rfl)
theorem dX31_best_115 : decode cX31_best 115 = .ok (.iload 13, 2) := dk_21 13 (dk_at dksX31_best_4 21 rfl rfl)
theorem dX31_best_117 : decode cX31_best 117 = .ok (.iconst 0, 1) := dk_3 (dk_at dksX31_best_4 23 rfl rfl)
theorem dX31_best_118 : decode cX31_best 118 = .ok (.aload_n 0, 1) := dk_42 (dk_at dksX31_best_5 0 rfl rfl)
theorem dX31_best_119 : decode cX31_best 119 = .ok (.getfield 43, 3) := dk_180 0 43 (dk_at dksX31_best_5 1 rfl rfl)
theorem dX31_best_122 : decode cX31_best 122 = .ok (.invokevirtual 100, 3) := dk_182 0 100 (dk_at dksX31_best_5 4 rfl rfl)
theorem dX31_best_125 : decode cX31_best 125 = .ok (.aload_n 0, 1) := dk_42 (dk_at dksX31_best_5 7 rfl rfl)
theorem dX31_best_126 : decode cX31_best 126 = .ok (.iload 12, 2) := dk_21 12 (dk_at dksX31_best_5 8 rfl rfl)
theorem dX31_best_128 : decode cX31_best 128 = .ok (.iload 13, 2) := dk_21 13 (dk_at dksX31_best_5 10 rfl rfl)
theorem dX31_best_130 : decode cX31_best 130 = .ok (.iconst 1, 1) := dk_4 (dk_at dksX31_best_5 12 rfl rfl)
theorem dX31_best_131 : decode cX31_best 131 = .ok (.aload_n 0, 1) := dk_42 (dk_at dksX31_best_5 13 rfl rfl)
theorem dX31_best_132 : decode cX31_best 132 = .ok (.getfield 46, 3) := dk_180 0 46 (dk_at dksX31_best_5 14 rfl rfl)
theorem dX31_best_135 : decode cX31_best 135 = .ok (.invokevirtual 100, 3) := dk_182 0 100 (dk_at dksX31_best_5 17 rfl rfl)
theorem dX31_best_138 : decode cX31_best 138 = .ok (.aload_n 0, 1) := dk_42 (dk_at dksX31_best_5 20 rfl rfl)
theorem dX31_best_139 : decode cX31_best 139 = .ok (.getfield 43, 3) := dk_180 0 43 (dk_at dksX31_best_5 21 rfl rfl)
theorem dX31_best_142 : decode cX31_best 142 = .ok (.aload_n 0, 1) := dk_42 (dk_at dksX31_best_6 0 rfl rfl)
theorem dX31_best_143 : decode cX31_best 143 = .ok (.getfield 46, 3) := dk_180 0 46 (dk_at dksX31_best_6 1 rfl rfl)
theorem dX31_best_146 : decode cX31_best 146 = .ok (.invokevirtual 104, 3) := dk_182 0 104 (dk_at dksX31_best_6 4 rfl rfl)
theorem dX31_best_149 : decode cX31_best 149 = .ok (.ifCond .ge 10, 3) := dk_156 0 10 (dk_at dksX31_best_6 7 rfl rfl)
theorem dX31_best_152 : decode cX31_best 152 = .ok (.aload_n 0, 1) := dk_42 (dk_at dksX31_best_6 10 rfl rfl)
theorem dX31_best_153 : decode cX31_best 153 = .ok (.getfield 46, 3) := dk_180 0 46 (dk_at dksX31_best_6 11 rfl rfl)
theorem dX31_best_156 : decode cX31_best 156 = .ok (.goto 7, 3) := dk_167 0 7 (dk_at dksX31_best_6 14 rfl rfl)
theorem dX31_best_159 : decode cX31_best 159 = .ok (.aload_n 0, 1) := dk_42 (dk_at dksX31_best_6 17 rfl rfl)
theorem dX31_best_160 : decode cX31_best 160 = .ok (.getfield 43, 3) := dk_180 0 43 (dk_at dksX31_best_6 18 rfl rfl)
theorem dX31_best_163 : decode cX31_best 163 = .ok (.astore 14, 2) := dk_58 14 (dk_at dksX31_best_6 21 rfl rfl)
theorem dX31_best_165 : decode cX31_best 165 = .ok (.iload 10, 2) := dk_21 10 (dk_at dksX31_best_7 0 rfl rfl)
theorem dX31_best_167 : decode cX31_best 167 = .ok (.ifCond .eq 15, 3) := dk_153 0 15 (dk_at dksX31_best_7 2 rfl rfl)
theorem dX31_best_170 : decode cX31_best 170 = .ok (.aload 14, 2) := dk_25 14 (dk_at dksX31_best_7 5 rfl rfl)
theorem dX31_best_172 : decode cX31_best 172 = .ok (.aload_n 0, 1) := dk_42 (dk_at dksX31_best_7 7 rfl rfl)
theorem dX31_best_173 : decode cX31_best 173 = .ok (.getfield 49, 3) := dk_180 0 49 (dk_at dksX31_best_7 8 rfl rfl)
theorem dX31_best_176 : decode cX31_best 176 = .ok (.invokevirtual 104, 3) := dk_182 0 104 (dk_at dksX31_best_7 11 rfl rfl)
theorem dX31_best_179 : decode cX31_best 179 = .ok (.ifCond .ge 28, 3) := dk_156 0 28 (dk_at dksX31_best_7 14 rfl rfl)
theorem dX31_best_182 : decode cX31_best 182 = .ok (.aload_n 0, 1) := dk_42 (dk_at dksX31_best_7 17 rfl rfl)
theorem dX31_best_183 : decode cX31_best 183 = .ok (.getfield 49, 3) := dk_180 0 49 (dk_at dksX31_best_7 18 rfl rfl)
theorem dX31_best_186 : decode cX31_best 186 = .ok (.aload 14, 2) := dk_25 14 (dk_at dksX31_best_7 21 rfl rfl)
theorem dX31_best_188 : decode cX31_best 188 = .ok (.getfield 90, 3) := dk_180 0 90 (dk_at dksX31_best_8 0 rfl rfl)
theorem dX31_best_191 : decode cX31_best 191 = .ok (.aload 14, 2) := dk_25 14 (dk_at dksX31_best_8 3 rfl rfl)
theorem dX31_best_193 : decode cX31_best 193 = .ok (.getfield 93, 3) := dk_180 0 93 (dk_at dksX31_best_8 5 rfl rfl)
theorem dX31_best_196 : decode cX31_best 196 = .ok (.invokevirtual 67, 3) := dk_182 0 67 (dk_at dksX31_best_8 8 rfl rfl)
theorem dX31_best_199 : decode cX31_best 199 = .ok (.iload 12, 2) := dk_21 12 (dk_at dksX31_best_8 11 rfl rfl)
theorem dX31_best_201 : decode cX31_best 201 = .ok (.istore 10, 2) := dk_54 10 (dk_at dksX31_best_8 13 rfl rfl)
theorem dX31_best_203 : decode cX31_best 203 = .ok (.iload 13, 2) := dk_21 13 (dk_at dksX31_best_8 15 rfl rfl)
theorem dX31_best_205 : decode cX31_best 205 = .ok (.istore 11, 2) := dk_54 11 (dk_at dksX31_best_8 17 rfl rfl)
theorem dX31_best_207 : decode cX31_best 207 = .ok (.iinc 13 1, 3) := dk_132 13 1 (dk_at dksX31_best_8 19 rfl rfl)
theorem dX31_best_210 : decode cX31_best 210 = .ok (.goto (-105), 3) := dk_167 255 151 (dk_at dksX31_best_9 0 rfl rfl)
theorem dX31_best_213 : decode cX31_best 213 = .ok (.iinc 12 1, 3) := dk_132 12 1 (dk_at dksX31_best_9 3 rfl rfl)
theorem dX31_best_216 : decode cX31_best 216 = .ok (.goto (-120), 3) := dk_167 255 136 (dk_at dksX31_best_9 6 rfl rfl)
theorem dX31_best_219 : decode cX31_best 219 = .ok (.aload_n 0, 1) := dk_42 (dk_at dksX31_best_9 9 rfl rfl)
theorem dX31_best_220 : decode cX31_best 220 = .ok (.iload 10, 2) := dk_21 10 (dk_at dksX31_best_9 10 rfl rfl)
theorem dX31_best_222 : decode cX31_best 222 = .ok (.iload 11, 2) := dk_21 11 (dk_at dksX31_best_9 12 rfl rfl)
theorem dX31_best_224 : decode cX31_best 224 = .ok (.invokevirtual 108, 3) := dk_182 0 108 (dk_at dksX31_best_9 14 rfl rfl)
theorem dX31_best_227 : decode cX31_best 227 = .ok (.ireturn, 1) := dk_172 (dk_at dksX31_best_9 17 rfl rfl)
abbrev cX31_riskOf : ByteArray := prog_32_method_8_code
def yX31_riskOf : MethodName := ⟨RX31, "riskOf", "(IIILWasteHouse$PurityOdds$Ratio;)V"⟩
def dkwX31_riskOf_3 : List UInt8 := [177]
abbrev dktX31_riskOf_3 : List UInt8 := dkwX31_riskOf_3 ++ []
def dkwX31_riskOf_2 : List UInt8 := [25, 4, 180, 0, 90, 101, 181, 0, 90, 25, 4, 25, 4, 180, 0, 90, 25, 4, 180, 0, 93, 182, 0, 67]
abbrev dktX31_riskOf_2 : List UInt8 := dkwX31_riskOf_2 ++ dktX31_riskOf_3
def dkwX31_riskOf_1 : List UInt8 := [180, 0, 90, 25, 5, 180, 0, 93, 25, 4, 182, 0, 82, 29, 154, 0, 34, 25, 4, 25, 4, 180, 0, 93]
abbrev dktX31_riskOf_1 : List UInt8 := dkwX31_riskOf_1 ++ dktX31_riskOf_2
def dkwX31_riskOf_0 : List UInt8 := [29, 154, 0, 10, 42, 180, 0, 32, 167, 0, 7, 42, 180, 0, 36, 58, 5, 42, 27, 28, 25, 5]
abbrev dktX31_riskOf_0 : List UInt8 := dkwX31_riskOf_0 ++ dktX31_riskOf_1
theorem dksX31_riskOf_0 : cX31_riskOf.data.toList.drop 0 = dktX31_riskOf_0 := by decide +kernel
theorem dksX31_riskOf_1 : cX31_riskOf.data.toList.drop 22 = dktX31_riskOf_1 := dk_seg dksX31_riskOf_0 22 rfl rfl
theorem dksX31_riskOf_2 : cX31_riskOf.data.toList.drop 46 = dktX31_riskOf_2 := dk_seg dksX31_riskOf_1 24 rfl rfl
theorem dksX31_riskOf_3 : cX31_riskOf.data.toList.drop 70 = dktX31_riskOf_3 := dk_seg dksX31_riskOf_2 24 rfl rfl
theorem dX31_riskOf_0 : decode cX31_riskOf 0 = .ok (.iload_n 3, 1) := dk_29 (dk_at dksX31_riskOf_0 0 rfl rfl)
theorem dX31_riskOf_1 : decode cX31_riskOf 1 = .ok (.ifCond .ne 10, 3) := dk_154 0 10 (dk_at dksX31_riskOf_0 1 rfl rfl)
theorem dX31_riskOf_4 : decode cX31_riskOf 4 = .ok (.aload_n 0, 1) := dk_42 (dk_at dksX31_riskOf_0 4 rfl rfl)
theorem dX31_riskOf_5 : decode cX31_riskOf 5 = .ok (.getfield 32, 3) := dk_180 0 32 (dk_at dksX31_riskOf_0 5 rfl rfl)
theorem dX31_riskOf_8 : decode cX31_riskOf 8 = .ok (.goto 7, 3) := dk_167 0 7 (dk_at dksX31_riskOf_0 8 rfl rfl)
theorem dX31_riskOf_11 : decode cX31_riskOf 11 = .ok (.aload_n 0, 1) := dk_42 (dk_at dksX31_riskOf_0 11 rfl rfl)
theorem dX31_riskOf_12 : decode cX31_riskOf 12 = .ok (.getfield 36, 3) := dk_180 0 36 (dk_at dksX31_riskOf_0 12 rfl rfl)
theorem dX31_riskOf_15 : decode cX31_riskOf 15 = .ok (.astore 5, 2) := dk_58 5 (dk_at dksX31_riskOf_0 15 rfl rfl)
theorem dX31_riskOf_17 : decode cX31_riskOf 17 = .ok (.aload_n 0, 1) := dk_42 (dk_at dksX31_riskOf_0 17 rfl rfl)
theorem dX31_riskOf_18 : decode cX31_riskOf 18 = .ok (.iload_n 1, 1) := dk_27 (dk_at dksX31_riskOf_0 18 rfl rfl)
theorem dX31_riskOf_19 : decode cX31_riskOf 19 = .ok (.iload_n 2, 1) := dk_28 (dk_at dksX31_riskOf_0 19 rfl rfl)
theorem dX31_riskOf_20 : decode cX31_riskOf 20 = .ok (.aload 5, 2) := dk_25 5 (dk_at dksX31_riskOf_0 20 rfl rfl)
theorem dX31_riskOf_22 : decode cX31_riskOf 22 = .ok (.getfield 90, 3) := dk_180 0 90 (dk_at dksX31_riskOf_1 0 rfl rfl)
theorem dX31_riskOf_25 : decode cX31_riskOf 25 = .ok (.aload 5, 2) := dk_25 5 (dk_at dksX31_riskOf_1 3 rfl rfl)
theorem dX31_riskOf_27 : decode cX31_riskOf 27 = .ok (.getfield 93, 3) := dk_180 0 93 (dk_at dksX31_riskOf_1 5 rfl rfl)
theorem dX31_riskOf_30 : decode cX31_riskOf 30 = .ok (.aload 4, 2) := dk_25 4 (dk_at dksX31_riskOf_1 8 rfl rfl)
theorem dX31_riskOf_32 : decode cX31_riskOf 32 = .ok (.invokevirtual 82, 3) := dk_182 0 82 (dk_at dksX31_riskOf_1 10 rfl rfl)
theorem dX31_riskOf_35 : decode cX31_riskOf 35 = .ok (.iload_n 3, 1) := dk_29 (dk_at dksX31_riskOf_1 13 rfl rfl)
theorem dX31_riskOf_36 : decode cX31_riskOf 36 = .ok (.ifCond .ne 34, 3) := dk_154 0 34 (dk_at dksX31_riskOf_1 14 rfl rfl)
theorem dX31_riskOf_39 : decode cX31_riskOf 39 = .ok (.aload 4, 2) := dk_25 4 (dk_at dksX31_riskOf_1 17 rfl rfl)
theorem dX31_riskOf_41 : decode cX31_riskOf 41 = .ok (.aload 4, 2) := dk_25 4 (dk_at dksX31_riskOf_1 19 rfl rfl)
theorem dX31_riskOf_43 : decode cX31_riskOf 43 = .ok (.getfield 93, 3) := dk_180 0 93 (dk_at dksX31_riskOf_1 21 rfl rfl)
theorem dX31_riskOf_46 : decode cX31_riskOf 46 = .ok (.aload 4, 2) := dk_25 4 (dk_at dksX31_riskOf_2 0 rfl rfl)
theorem dX31_riskOf_48 : decode cX31_riskOf 48 = .ok (.getfield 90, 3) := dk_180 0 90 (dk_at dksX31_riskOf_2 2 rfl rfl)
theorem dX31_riskOf_51 : decode cX31_riskOf 51 = .ok (.lsub, 1) := dk_101 (dk_at dksX31_riskOf_2 5 rfl rfl)
theorem dX31_riskOf_52 : decode cX31_riskOf 52 = .ok (.putfield 90, 3) := dk_181 0 90 (dk_at dksX31_riskOf_2 6 rfl rfl)
theorem dX31_riskOf_55 : decode cX31_riskOf 55 = .ok (.aload 4, 2) := dk_25 4 (dk_at dksX31_riskOf_2 9 rfl rfl)
theorem dX31_riskOf_57 : decode cX31_riskOf 57 = .ok (.aload 4, 2) := dk_25 4 (dk_at dksX31_riskOf_2 11 rfl rfl)
theorem dX31_riskOf_59 : decode cX31_riskOf 59 = .ok (.getfield 90, 3) := dk_180 0 90 (dk_at dksX31_riskOf_2 13 rfl rfl)
theorem dX31_riskOf_62 : decode cX31_riskOf 62 = .ok (.aload 4, 2) := dk_25 4 (dk_at dksX31_riskOf_2 16 rfl rfl)
theorem dX31_riskOf_64 : decode cX31_riskOf 64 = .ok (.getfield 93, 3) := dk_180 0 93 (dk_at dksX31_riskOf_2 18 rfl rfl)
theorem dX31_riskOf_67 : decode cX31_riskOf 67 = .ok (.invokevirtual 67, 3) := dk_182 0 67 (dk_at dksX31_riskOf_2 21 rfl rfl)
theorem dX31_riskOf_70 : decode cX31_riskOf 70 = .ok (.return_, 1) := dk_177 (dk_at dksX31_riskOf_3 0 rfl rfl)
abbrev cX31_risk : ByteArray := prog_32_method_10_code
def yX31_risk : MethodName := ⟨RX31, "risk", "(III)J"⟩
def dkwX31_risk_2 : List UInt8 := [180, 0, 43, 182, 0, 100, 42, 180, 0, 43, 29, 182, 0, 86, 173]
abbrev dktX31_risk_2 : List UInt8 := dkwX31_risk_2 ++ []
def dkwX31_risk_1 : List UInt8 := [154, 0, 7, 20, 0, 80, 173, 42, 42, 180, 0, 7, 27, 46, 42, 180, 0, 13, 27, 46, 28, 42]
abbrev dktX31_risk_1 : List UInt8 := dkwX31_risk_1 ++ dktX31_risk_2
def dkwX31_risk_0 : List UInt8 := [42, 27, 182, 0, 71, 153, 0, 20, 42, 180, 0, 96, 153, 0, 13, 28, 133, 9, 10, 184, 0, 57]
abbrev dktX31_risk_0 : List UInt8 := dkwX31_risk_0 ++ dktX31_risk_1
theorem dksX31_risk_0 : cX31_risk.data.toList.drop 0 = dktX31_risk_0 := by decide +kernel
theorem dksX31_risk_1 : cX31_risk.data.toList.drop 22 = dktX31_risk_1 := dk_seg dksX31_risk_0 22 rfl rfl
theorem dksX31_risk_2 : cX31_risk.data.toList.drop 44 = dktX31_risk_2 := dk_seg dksX31_risk_1 22 rfl rfl
theorem dX31_risk_0 : decode cX31_risk 0 = .ok (.aload_n 0, 1) := dk_42 (dk_at dksX31_risk_0 0 rfl rfl)
theorem dX31_risk_1 : decode cX31_risk 1 = .ok (.iload_n 1, 1) := dk_27 (dk_at dksX31_risk_0 1 rfl rfl)
theorem dX31_risk_2 : decode cX31_risk 2 = .ok (.invokevirtual 71, 3) := dk_182 0 71 (dk_at dksX31_risk_0 2 rfl rfl)
theorem dX31_risk_5 : decode cX31_risk 5 = .ok (.ifCond .eq 20, 3) := dk_153 0 20 (dk_at dksX31_risk_0 5 rfl rfl)
theorem dX31_risk_8 : decode cX31_risk 8 = .ok (.aload_n 0, 1) := dk_42 (dk_at dksX31_risk_0 8 rfl rfl)
theorem dX31_risk_9 : decode cX31_risk 9 = .ok (.getfield 96, 3) := dk_180 0 96 (dk_at dksX31_risk_0 9 rfl rfl)
theorem dX31_risk_12 : decode cX31_risk 12 = .ok (.ifCond .eq 13, 3) := dk_153 0 13 (dk_at dksX31_risk_0 12 rfl rfl)
theorem dX31_risk_15 : decode cX31_risk 15 = .ok (.iload_n 2, 1) := dk_28 (dk_at dksX31_risk_0 15 rfl rfl)
theorem dX31_risk_16 : decode cX31_risk 16 = .ok (.i2l, 1) := dk_133 (dk_at dksX31_risk_0 16 rfl rfl)
theorem dX31_risk_17 : decode cX31_risk 17 = .ok (.lconst 0, 1) := dk_9 (dk_at dksX31_risk_0 17 rfl rfl)
theorem dX31_risk_18 : decode cX31_risk 18 = .ok (.lconst 1, 1) := dk_10 (dk_at dksX31_risk_0 18 rfl rfl)
theorem dX31_risk_19 : decode cX31_risk 19 = .ok (.invokestatic 57, 3) := dk_184 0 57 (dk_at dksX31_risk_0 19 rfl rfl)
theorem dX31_risk_22 : decode cX31_risk 22 = .ok (.ifCond .ne 7, 3) := dk_154 0 7 (dk_at dksX31_risk_1 0 rfl rfl)
theorem dX31_risk_25 : decode cX31_risk 25 = .ok (.ldc2_w 80, 3) := dk_20 0 80 (dk_at dksX31_risk_1 3 rfl rfl)
theorem dX31_risk_28 : decode cX31_risk 28 = .ok (.lreturn, 1) := dk_173 (dk_at dksX31_risk_1 6 rfl rfl)
theorem dX31_risk_29 : decode cX31_risk 29 = .ok (.aload_n 0, 1) := dk_42 (dk_at dksX31_risk_1 7 rfl rfl)
theorem dX31_risk_30 : decode cX31_risk 30 = .ok (.aload_n 0, 1) := dk_42 (dk_at dksX31_risk_1 8 rfl rfl)
theorem dX31_risk_31 : decode cX31_risk 31 = .ok (.getfield 7, 3) := dk_180 0 7 (dk_at dksX31_risk_1 9 rfl rfl)
theorem dX31_risk_34 : decode cX31_risk 34 = .ok (.iload_n 1, 1) := dk_27 (dk_at dksX31_risk_1 12 rfl rfl)
theorem dX31_risk_35 : decode cX31_risk 35 = .ok (.iaload, 1) := dk_46 (dk_at dksX31_risk_1 13 rfl rfl)
theorem dX31_risk_36 : decode cX31_risk 36 = .ok (.aload_n 0, 1) := dk_42 (dk_at dksX31_risk_1 14 rfl rfl)
theorem dX31_risk_37 : decode cX31_risk 37 = .ok (.getfield 13, 3) := dk_180 0 13 (dk_at dksX31_risk_1 15 rfl rfl)
theorem dX31_risk_40 : decode cX31_risk 40 = .ok (.iload_n 1, 1) := dk_27 (dk_at dksX31_risk_1 18 rfl rfl)
theorem dX31_risk_41 : decode cX31_risk 41 = .ok (.iaload, 1) := dk_46 (dk_at dksX31_risk_1 19 rfl rfl)
theorem dX31_risk_42 : decode cX31_risk 42 = .ok (.iload_n 2, 1) := dk_28 (dk_at dksX31_risk_1 20 rfl rfl)
theorem dX31_risk_43 : decode cX31_risk 43 = .ok (.aload_n 0, 1) := dk_42 (dk_at dksX31_risk_1 21 rfl rfl)
theorem dX31_risk_44 : decode cX31_risk 44 = .ok (.getfield 43, 3) := dk_180 0 43 (dk_at dksX31_risk_2 0 rfl rfl)
theorem dX31_risk_47 : decode cX31_risk 47 = .ok (.invokevirtual 100, 3) := dk_182 0 100 (dk_at dksX31_risk_2 3 rfl rfl)
theorem dX31_risk_50 : decode cX31_risk 50 = .ok (.aload_n 0, 1) := dk_42 (dk_at dksX31_risk_2 6 rfl rfl)
theorem dX31_risk_51 : decode cX31_risk 51 = .ok (.getfield 43, 3) := dk_180 0 43 (dk_at dksX31_risk_2 7 rfl rfl)
theorem dX31_risk_54 : decode cX31_risk 54 = .ok (.iload_n 3, 1) := dk_29 (dk_at dksX31_risk_2 10 rfl rfl)
theorem dX31_risk_55 : decode cX31_risk 55 = .ok (.invokevirtual 86, 3) := dk_182 0 86 (dk_at dksX31_risk_2 11 rfl rfl)
theorem dX31_risk_58 : decode cX31_risk 58 = .ok (.lreturn, 1) := dk_173 (dk_at dksX31_risk_2 14 rfl rfl)
abbrev cX31_repeats : ByteArray := prog_32_method_15_code
def yX31_repeats : MethodName := ⟨RX31, "repeats", "(I)I"⟩
def dkwX31_repeats_4 : List UInt8 := [29, 172]
abbrev dktX31_repeats_4 : List UInt8 := dkwX31_repeats_4 ++ []
def dkwX31_repeats_3 : List UInt8 := [167, 255, 219, 29, 21, 5, 21, 4, 162, 0, 7, 4, 167, 0, 4, 3, 96, 62, 132, 4, 1, 167, 255, 186]
abbrev dktX31_repeats_3 : List UInt8 := dkwX31_repeats_3 ++ dktX31_repeats_4
def dkwX31_repeats_2 : List UInt8 := [160, 0, 20, 44, 180, 0, 139, 21, 5, 46, 44, 180, 0, 139, 21, 4, 46, 159, 0, 9, 132, 5, 1]
abbrev dktX31_repeats_2 : List UInt8 := dkwX31_repeats_2 ++ dktX31_repeats_3
def dkwX31_repeats_1 : List UInt8 := [44, 180, 0, 133, 162, 0, 67, 3, 54, 5, 44, 180, 0, 136, 21, 5, 46, 44, 180, 0, 136, 21, 4, 46]
abbrev dktX31_repeats_1 : List UInt8 := dkwX31_repeats_1 ++ dktX31_repeats_2
def dkwX31_repeats_0 : List UInt8 := [42, 27, 182, 0, 126, 154, 0, 5, 2, 172, 42, 180, 0, 18, 27, 50, 77, 3, 62, 4, 54, 4, 21, 4]
abbrev dktX31_repeats_0 : List UInt8 := dkwX31_repeats_0 ++ dktX31_repeats_1
theorem dksX31_repeats_0 : cX31_repeats.data.toList.drop 0 = dktX31_repeats_0 := by decide +kernel
theorem dksX31_repeats_1 : cX31_repeats.data.toList.drop 24 = dktX31_repeats_1 := dk_seg dksX31_repeats_0 24 rfl rfl
theorem dksX31_repeats_2 : cX31_repeats.data.toList.drop 48 = dktX31_repeats_2 := dk_seg dksX31_repeats_1 24 rfl rfl
theorem dksX31_repeats_3 : cX31_repeats.data.toList.drop 71 = dktX31_repeats_3 := dk_seg dksX31_repeats_2 23 rfl rfl
theorem dksX31_repeats_4 : cX31_repeats.data.toList.drop 95 = dktX31_repeats_4 := dk_seg dksX31_repeats_3 24 rfl rfl
theorem dX31_repeats_0 : decode cX31_repeats 0 = .ok (.aload_n 0, 1) := dk_42 (dk_at dksX31_repeats_0 0 rfl rfl)
theorem dX31_repeats_1 : decode cX31_repeats 1 = .ok (.iload_n 1, 1) := dk_27 (dk_at dksX31_repeats_0 1 rfl rfl)
theorem dX31_repeats_2 : decode cX31_repeats 2 = .ok (.invokevirtual 126, 3) := dk_182 0 126 (dk_at dksX31_repeats_0 2 rfl rfl)
theorem dX31_repeats_5 : decode cX31_repeats 5 = .ok (.ifCond .ne 5, 3) := dk_154 0 5 (dk_at dksX31_repeats_0 5 rfl rfl)
theorem dX31_repeats_8 : decode cX31_repeats 8 = .ok (.iconst (-1), 1) := dk_2 (dk_at dksX31_repeats_0 8 rfl rfl)
theorem dX31_repeats_9 : decode cX31_repeats 9 = .ok (.ireturn, 1) := dk_172 (dk_at dksX31_repeats_0 9 rfl rfl)
theorem dX31_repeats_10 : decode cX31_repeats 10 = .ok (.aload_n 0, 1) := dk_42 (dk_at dksX31_repeats_0 10 rfl rfl)
theorem dX31_repeats_11 : decode cX31_repeats 11 = .ok (.getfield 18, 3) := dk_180 0 18 (dk_at dksX31_repeats_0 11 rfl rfl)
theorem dX31_repeats_14 : decode cX31_repeats 14 = .ok (.iload_n 1, 1) := dk_27 (dk_at dksX31_repeats_0 14 rfl rfl)
theorem dX31_repeats_15 : decode cX31_repeats 15 = .ok (.aaload, 1) := dk_50 (dk_at dksX31_repeats_0 15 rfl rfl)
theorem dX31_repeats_16 : decode cX31_repeats 16 = .ok (.astore_n 2, 1) := dk_77 (dk_at dksX31_repeats_0 16 rfl rfl)
theorem dX31_repeats_17 : decode cX31_repeats 17 = .ok (.iconst 0, 1) := dk_3 (dk_at dksX31_repeats_0 17 rfl rfl)
theorem dX31_repeats_18 : decode cX31_repeats 18 = .ok (.istore_n 3, 1) := dk_62 (dk_at dksX31_repeats_0 18 rfl rfl)
theorem dX31_repeats_19 : decode cX31_repeats 19 = .ok (.iconst 1, 1) := dk_4 (dk_at dksX31_repeats_0 19 rfl rfl)
theorem dX31_repeats_20 : decode cX31_repeats 20 = .ok (.istore 4, 2) := dk_54 4 (dk_at dksX31_repeats_0 20 rfl rfl)
theorem dX31_repeats_22 : decode cX31_repeats 22 = .ok (.iload 4, 2) := dk_21 4 (dk_at dksX31_repeats_0 22 rfl rfl)
theorem dX31_repeats_24 : decode cX31_repeats 24 = .ok (.aload_n 2, 1) := dk_44 (dk_at dksX31_repeats_1 0 rfl rfl)
theorem dX31_repeats_25 : decode cX31_repeats 25 = .ok (.getfield 133, 3) := dk_180 0 133 (dk_at dksX31_repeats_1 1 rfl rfl)
theorem dX31_repeats_28 : decode cX31_repeats 28 = .ok (.if_icmp .ge 67, 3) := dk_162 0 67 (dk_at dksX31_repeats_1 4 rfl rfl)
theorem dX31_repeats_31 : decode cX31_repeats 31 = .ok (.iconst 0, 1) := dk_3 (dk_at dksX31_repeats_1 7 rfl rfl)
theorem dX31_repeats_32 : decode cX31_repeats 32 = .ok (.istore 5, 2) := dk_54 5 (dk_at dksX31_repeats_1 8 rfl rfl)
theorem dX31_repeats_34 : decode cX31_repeats 34 = .ok (.aload_n 2, 1) := dk_44 (dk_at dksX31_repeats_1 10 rfl rfl)
theorem dX31_repeats_35 : decode cX31_repeats 35 = .ok (.getfield 136, 3) := dk_180 0 136 (dk_at dksX31_repeats_1 11 rfl rfl)
theorem dX31_repeats_38 : decode cX31_repeats 38 = .ok (.iload 5, 2) := dk_21 5 (dk_at dksX31_repeats_1 14 rfl rfl)
theorem dX31_repeats_40 : decode cX31_repeats 40 = .ok (.iaload, 1) := dk_46 (dk_at dksX31_repeats_1 16 rfl rfl)
theorem dX31_repeats_41 : decode cX31_repeats 41 = .ok (.aload_n 2, 1) := dk_44 (dk_at dksX31_repeats_1 17 rfl rfl)
theorem dX31_repeats_42 : decode cX31_repeats 42 = .ok (.getfield 136, 3) := dk_180 0 136 (dk_at dksX31_repeats_1 18 rfl rfl)
theorem dX31_repeats_45 : decode cX31_repeats 45 = .ok (.iload 4, 2) := dk_21 4 (dk_at dksX31_repeats_1 21 rfl rfl)
theorem dX31_repeats_47 : decode cX31_repeats 47 = .ok (.iaload, 1) := dk_46 (dk_at dksX31_repeats_1 23 rfl rfl)
theorem dX31_repeats_48 : decode cX31_repeats 48 = .ok (.if_icmp .ne 20, 3) := dk_160 0 20 (dk_at dksX31_repeats_2 0 rfl rfl)
theorem dX31_repeats_51 : decode cX31_repeats 51 = .ok (.aload_n 2, 1) := dk_44 (dk_at dksX31_repeats_2 3 rfl rfl)
theorem dX31_repeats_52 : decode cX31_repeats 52 = .ok (.getfield 139, 3) := dk_180 0 139 (dk_at dksX31_repeats_2 4 rfl rfl)
theorem dX31_repeats_55 : decode cX31_repeats 55 = .ok (.iload 5, 2) := dk_21 5 (dk_at dksX31_repeats_2 7 rfl rfl)
theorem dX31_repeats_57 : decode cX31_repeats 57 = .ok (.iaload, 1) := dk_46 (dk_at dksX31_repeats_2 9 rfl rfl)
theorem dX31_repeats_58 : decode cX31_repeats 58 = .ok (.aload_n 2, 1) := dk_44 (dk_at dksX31_repeats_2 10 rfl rfl)
theorem dX31_repeats_59 : decode cX31_repeats 59 = .ok (.getfield 139, 3) := dk_180 0 139 (dk_at dksX31_repeats_2 11 rfl rfl)
theorem dX31_repeats_62 : decode cX31_repeats 62 = .ok (.iload 4, 2) := dk_21 4 (dk_at dksX31_repeats_2 14 rfl rfl)
theorem dX31_repeats_64 : decode cX31_repeats 64 = .ok (.iaload, 1) := dk_46 (dk_at dksX31_repeats_2 16 rfl rfl)
theorem dX31_repeats_65 : decode cX31_repeats 65 = .ok (.if_icmp .eq 9, 3) := dk_159 0 9 (dk_at dksX31_repeats_2 17 rfl rfl)
theorem dX31_repeats_68 : decode cX31_repeats 68 = .ok (.iinc 5 1, 3) := dk_132 5 1 (dk_at dksX31_repeats_2 20 rfl rfl)
theorem dX31_repeats_71 : decode cX31_repeats 71 = .ok (.goto (-37), 3) := dk_167 255 219 (dk_at dksX31_repeats_3 0 rfl rfl)
theorem dX31_repeats_74 : decode cX31_repeats 74 = .ok (.iload_n 3, 1) := dk_29 (dk_at dksX31_repeats_3 3 rfl rfl)
theorem dX31_repeats_75 : decode cX31_repeats 75 = .ok (.iload 5, 2) := dk_21 5 (dk_at dksX31_repeats_3 4 rfl rfl)
theorem dX31_repeats_77 : decode cX31_repeats 77 = .ok (.iload 4, 2) := dk_21 4 (dk_at dksX31_repeats_3 6 rfl rfl)
theorem dX31_repeats_79 : decode cX31_repeats 79 = .ok (.if_icmp .ge 7, 3) := dk_162 0 7 (dk_at dksX31_repeats_3 8 rfl rfl)
theorem dX31_repeats_82 : decode cX31_repeats 82 = .ok (.iconst 1, 1) := dk_4 (dk_at dksX31_repeats_3 11 rfl rfl)
theorem dX31_repeats_83 : decode cX31_repeats 83 = .ok (.goto 4, 3) := dk_167 0 4 (dk_at dksX31_repeats_3 12 rfl rfl)
theorem dX31_repeats_86 : decode cX31_repeats 86 = .ok (.iconst 0, 1) := dk_3 (dk_at dksX31_repeats_3 15 rfl rfl)
theorem dX31_repeats_87 : decode cX31_repeats 87 = .ok (.iadd, 1) := dk_96 (dk_at dksX31_repeats_3 16 rfl rfl)
theorem dX31_repeats_88 : decode cX31_repeats 88 = .ok (.istore_n 3, 1) := dk_62 (dk_at dksX31_repeats_3 17 rfl rfl)
theorem dX31_repeats_89 : decode cX31_repeats 89 = .ok (.iinc 4 1, 3) := dk_132 4 1 (dk_at dksX31_repeats_3 18 rfl rfl)
theorem dX31_repeats_92 : decode cX31_repeats 92 = .ok (.goto (-70), 3) := dk_167 255 186 (dk_at dksX31_repeats_3 21 rfl rfl)
theorem dX31_repeats_95 : decode cX31_repeats 95 = .ok (.iload_n 3, 1) := dk_29 (dk_at dksX31_repeats_4 0 rfl rfl)
theorem dX31_repeats_96 : decode cX31_repeats 96 = .ok (.ireturn, 1) := dk_172 (dk_at dksX31_repeats_4 1 rfl rfl)
abbrev cX31_step : ByteArray := prog_32_method_16_code
def yX31_step : MethodName := ⟨RX31, "step", "(JJJ)Z"⟩
def dkwX31_step_4 : List UInt8 := [180, 0, 152, 90, 4, 96, 181, 0, 152, 22, 5, 136, 79, 4, 172]
abbrev dktX31_step_4 : List UInt8 := dkwX31_step_4 ++ []
def dkwX31_step_3 : List UInt8 := [3, 172, 42, 180, 0, 24, 42, 180, 0, 152, 50, 31, 33, 182, 0, 67, 42, 180, 0, 28, 42, 89]
abbrev dktX31_step_3 : List UInt8 := dkwX31_step_3 ++ dktX31_step_4
def dkwX31_step_2 : List UInt8 := [158, 0, 26, 42, 180, 0, 43, 42, 180, 0, 24, 42, 180, 0, 152, 4, 100, 50, 182, 0, 104, 157, 0, 5]
abbrev dktX31_step_2 : List UInt8 := dkwX31_step_2 ++ dktX31_step_3
def dkwX31_step_1 : List UInt8 := [180, 0, 152, 16, 12, 160, 0, 5, 3, 172, 42, 180, 0, 43, 31, 33, 182, 0, 67, 42, 180, 0, 152]
abbrev dktX31_step_1 : List UInt8 := dkwX31_step_1 ++ dktX31_step_2
def dkwX31_step_0 : List UInt8 := [31, 33, 20, 0, 148, 184, 0, 77, 153, 0, 24, 22, 5, 9, 20, 0, 150, 184, 0, 57, 153, 0, 12, 42]
abbrev dktX31_step_0 : List UInt8 := dkwX31_step_0 ++ dktX31_step_1
theorem dksX31_step_0 : cX31_step.data.toList.drop 0 = dktX31_step_0 := by decide +kernel
theorem dksX31_step_1 : cX31_step.data.toList.drop 24 = dktX31_step_1 := dk_seg dksX31_step_0 24 rfl rfl
theorem dksX31_step_2 : cX31_step.data.toList.drop 47 = dktX31_step_2 := dk_seg dksX31_step_1 23 rfl rfl
theorem dksX31_step_3 : cX31_step.data.toList.drop 71 = dktX31_step_3 := dk_seg dksX31_step_2 24 rfl rfl
theorem dksX31_step_4 : cX31_step.data.toList.drop 93 = dktX31_step_4 := dk_seg dksX31_step_3 22 rfl rfl
theorem dX31_step_0 : decode cX31_step 0 = .ok (.lload_n 1, 1) := dk_31 (dk_at dksX31_step_0 0 rfl rfl)
theorem dX31_step_1 : decode cX31_step 1 = .ok (.lload_n 3, 1) := dk_33 (dk_at dksX31_step_0 1 rfl rfl)
theorem dX31_step_2 : decode cX31_step 2 = .ok (.ldc2_w 148, 3) := dk_20 0 148 (dk_at dksX31_step_0 2 rfl rfl)
theorem dX31_step_5 : decode cX31_step 5 = .ok (.invokestatic 77, 3) := dk_184 0 77 (dk_at dksX31_step_0 5 rfl rfl)
theorem dX31_step_8 : decode cX31_step 8 = .ok (.ifCond .eq 24, 3) := dk_153 0 24 (dk_at dksX31_step_0 8 rfl rfl)
theorem dX31_step_11 : decode cX31_step 11 = .ok (.lload 5, 2) := dk_22 5 (dk_at dksX31_step_0 11 rfl rfl)
theorem dX31_step_13 : decode cX31_step 13 = .ok (.lconst 0, 1) := dk_9 (dk_at dksX31_step_0 13 rfl rfl)
theorem dX31_step_14 : decode cX31_step 14 = .ok (.ldc2_w 150, 3) := dk_20 0 150 (dk_at dksX31_step_0 14 rfl rfl)
theorem dX31_step_17 : decode cX31_step 17 = .ok (.invokestatic 57, 3) := dk_184 0 57 (dk_at dksX31_step_0 17 rfl rfl)
theorem dX31_step_20 : decode cX31_step 20 = .ok (.ifCond .eq 12, 3) := dk_153 0 12 (dk_at dksX31_step_0 20 rfl rfl)
theorem dX31_step_23 : decode cX31_step 23 = .ok (.aload_n 0, 1) := dk_42 (dk_at dksX31_step_0 23 rfl rfl)
theorem dX31_step_24 : decode cX31_step 24 = .ok (.getfield 152, 3) := dk_180 0 152 (dk_at dksX31_step_1 0 rfl rfl)
theorem dX31_step_27 : decode cX31_step 27 = .ok (.bipush 12, 2) := dk_16 12 (dk_at dksX31_step_1 3 rfl rfl)
theorem dX31_step_29 : decode cX31_step 29 = .ok (.if_icmp .ne 5, 3) := dk_160 0 5 (dk_at dksX31_step_1 5 rfl rfl)
theorem dX31_step_32 : decode cX31_step 32 = .ok (.iconst 0, 1) := dk_3 (dk_at dksX31_step_1 8 rfl rfl)
theorem dX31_step_33 : decode cX31_step 33 = .ok (.ireturn, 1) := dk_172 (dk_at dksX31_step_1 9 rfl rfl)
theorem dX31_step_34 : decode cX31_step 34 = .ok (.aload_n 0, 1) := dk_42 (dk_at dksX31_step_1 10 rfl rfl)
theorem dX31_step_35 : decode cX31_step 35 = .ok (.getfield 43, 3) := dk_180 0 43 (dk_at dksX31_step_1 11 rfl rfl)
theorem dX31_step_38 : decode cX31_step 38 = .ok (.lload_n 1, 1) := dk_31 (dk_at dksX31_step_1 14 rfl rfl)
theorem dX31_step_39 : decode cX31_step 39 = .ok (.lload_n 3, 1) := dk_33 (dk_at dksX31_step_1 15 rfl rfl)
theorem dX31_step_40 : decode cX31_step 40 = .ok (.invokevirtual 67, 3) := dk_182 0 67 (dk_at dksX31_step_1 16 rfl rfl)
theorem dX31_step_43 : decode cX31_step 43 = .ok (.aload_n 0, 1) := dk_42 (dk_at dksX31_step_1 19 rfl rfl)
theorem dX31_step_44 : decode cX31_step 44 = .ok (.getfield 152, 3) := dk_180 0 152 (dk_at dksX31_step_1 20 rfl rfl)
theorem dX31_step_47 : decode cX31_step 47 = .ok (.ifCond .le 26, 3) := dk_158 0 26 (dk_at dksX31_step_2 0 rfl rfl)
theorem dX31_step_50 : decode cX31_step 50 = .ok (.aload_n 0, 1) := dk_42 (dk_at dksX31_step_2 3 rfl rfl)
theorem dX31_step_51 : decode cX31_step 51 = .ok (.getfield 43, 3) := dk_180 0 43 (dk_at dksX31_step_2 4 rfl rfl)
theorem dX31_step_54 : decode cX31_step 54 = .ok (.aload_n 0, 1) := dk_42 (dk_at dksX31_step_2 7 rfl rfl)
theorem dX31_step_55 : decode cX31_step 55 = .ok (.getfield 24, 3) := dk_180 0 24 (dk_at dksX31_step_2 8 rfl rfl)
theorem dX31_step_58 : decode cX31_step 58 = .ok (.aload_n 0, 1) := dk_42 (dk_at dksX31_step_2 11 rfl rfl)
theorem dX31_step_59 : decode cX31_step 59 = .ok (.getfield 152, 3) := dk_180 0 152 (dk_at dksX31_step_2 12 rfl rfl)
theorem dX31_step_62 : decode cX31_step 62 = .ok (.iconst 1, 1) := dk_4 (dk_at dksX31_step_2 15 rfl rfl)
theorem dX31_step_63 : decode cX31_step 63 = .ok (.isub, 1) := dk_100 (dk_at dksX31_step_2 16 rfl rfl)
theorem dX31_step_64 : decode cX31_step 64 = .ok (.aaload, 1) := dk_50 (dk_at dksX31_step_2 17 rfl rfl)
theorem dX31_step_65 : decode cX31_step 65 = .ok (.invokevirtual 104, 3) := dk_182 0 104 (dk_at dksX31_step_2 18 rfl rfl)
theorem dX31_step_68 : decode cX31_step 68 = .ok (.ifCond .gt 5, 3) := dk_157 0 5 (dk_at dksX31_step_2 21 rfl rfl)
theorem dX31_step_71 : decode cX31_step 71 = .ok (.iconst 0, 1) := dk_3 (dk_at dksX31_step_3 0 rfl rfl)
theorem dX31_step_72 : decode cX31_step 72 = .ok (.ireturn, 1) := dk_172 (dk_at dksX31_step_3 1 rfl rfl)
theorem dX31_step_73 : decode cX31_step 73 = .ok (.aload_n 0, 1) := dk_42 (dk_at dksX31_step_3 2 rfl rfl)
theorem dX31_step_74 : decode cX31_step 74 = .ok (.getfield 24, 3) := dk_180 0 24 (dk_at dksX31_step_3 3 rfl rfl)
theorem dX31_step_77 : decode cX31_step 77 = .ok (.aload_n 0, 1) := dk_42 (dk_at dksX31_step_3 6 rfl rfl)
theorem dX31_step_78 : decode cX31_step 78 = .ok (.getfield 152, 3) := dk_180 0 152 (dk_at dksX31_step_3 7 rfl rfl)
theorem dX31_step_81 : decode cX31_step 81 = .ok (.aaload, 1) := dk_50 (dk_at dksX31_step_3 10 rfl rfl)
theorem dX31_step_82 : decode cX31_step 82 = .ok (.lload_n 1, 1) := dk_31 (dk_at dksX31_step_3 11 rfl rfl)
theorem dX31_step_83 : decode cX31_step 83 = .ok (.lload_n 3, 1) := dk_33 (dk_at dksX31_step_3 12 rfl rfl)
theorem dX31_step_84 : decode cX31_step 84 = .ok (.invokevirtual 67, 3) := dk_182 0 67 (dk_at dksX31_step_3 13 rfl rfl)
theorem dX31_step_87 : decode cX31_step 87 = .ok (.aload_n 0, 1) := dk_42 (dk_at dksX31_step_3 16 rfl rfl)
theorem dX31_step_88 : decode cX31_step 88 = .ok (.getfield 28, 3) := dk_180 0 28 (dk_at dksX31_step_3 17 rfl rfl)
theorem dX31_step_91 : decode cX31_step 91 = .ok (.aload_n 0, 1) := dk_42 (dk_at dksX31_step_3 20 rfl rfl)
theorem dX31_step_92 : decode cX31_step 92 = .ok (.dup, 1) := dk_89 (dk_at dksX31_step_3 21 rfl rfl)
theorem dX31_step_93 : decode cX31_step 93 = .ok (.getfield 152, 3) := dk_180 0 152 (dk_at dksX31_step_4 0 rfl rfl)
theorem dX31_step_96 : decode cX31_step 96 = .ok (.dup_x1, 1) := dk_90 (dk_at dksX31_step_4 3 rfl rfl)
theorem dX31_step_97 : decode cX31_step 97 = .ok (.iconst 1, 1) := dk_4 (dk_at dksX31_step_4 4 rfl rfl)
theorem dX31_step_98 : decode cX31_step 98 = .ok (.iadd, 1) := dk_96 (dk_at dksX31_step_4 5 rfl rfl)
theorem dX31_step_99 : decode cX31_step 99 = .ok (.putfield 152, 3) := dk_181 0 152 (dk_at dksX31_step_4 6 rfl rfl)
theorem dX31_step_102 : decode cX31_step 102 = .ok (.lload 5, 2) := dk_22 5 (dk_at dksX31_step_4 9 rfl rfl)
theorem dX31_step_104 : decode cX31_step 104 = .ok (.l2i, 1) := dk_136 (dk_at dksX31_step_4 11 rfl rfl)
theorem dX31_step_105 : decode cX31_step 105 = .ok (.iastore, 1) := dk_79 (dk_at dksX31_step_4 12 rfl rfl)
theorem dX31_step_106 : decode cX31_step 106 = .ok (.iconst 1, 1) := dk_4 (dk_at dksX31_step_4 13 rfl rfl)
theorem dX31_step_107 : decode cX31_step 107 = .ok (.ireturn, 1) := dk_172 (dk_at dksX31_step_4 14 rfl rfl)
abbrev cX31_third : ByteArray := prog_32_method_21_code
def yX31_third : MethodName := ⟨RX31, "third", "(IJJ)I"⟩
def dkwX31_third_4 : List UInt8 := [180, 0, 158, 182, 0, 168, 21, 7, 161, 0, 7, 4, 167, 0, 4, 3, 172]
abbrev dktX31_third_4 : List UInt8 := dkwX31_third_4 ++ []
def dkwX31_third_3 : List UInt8 := [54, 7, 25, 6, 4, 181, 0, 155, 25, 6, 180, 0, 158, 32, 22, 4, 182, 0, 67, 42, 25, 6]
abbrev dktX31_third_3 : List UInt8 := dkwX31_third_3 ++ dktX31_third_4
def dkwX31_third_2 : List UInt8 := [25, 6, 180, 0, 142, 3, 47, 25, 6, 180, 0, 145, 182, 0, 67, 42, 42, 180, 0, 46, 182, 0, 168]
abbrev dktX31_third_2 : List UInt8 := dkwX31_third_2 ++ dktX31_third_3
def dkwX31_third_1 : List UInt8 := [20, 0, 148, 184, 0, 77, 154, 0, 5, 2, 172, 42, 180, 0, 18, 27, 50, 58, 6, 42, 180, 0, 46]
abbrev dktX31_third_1 : List UInt8 := dkwX31_third_1 ++ dktX31_third_2
def dkwX31_third_0 : List UInt8 := [42, 27, 182, 0, 126, 153, 0, 27, 42, 180, 0, 18, 27, 50, 180, 0, 133, 153, 0, 15, 32, 22, 4]
abbrev dktX31_third_0 : List UInt8 := dkwX31_third_0 ++ dktX31_third_1
theorem dksX31_third_0 : cX31_third.data.toList.drop 0 = dktX31_third_0 := by decide +kernel
theorem dksX31_third_1 : cX31_third.data.toList.drop 23 = dktX31_third_1 := dk_seg dksX31_third_0 23 rfl rfl
theorem dksX31_third_2 : cX31_third.data.toList.drop 46 = dktX31_third_2 := dk_seg dksX31_third_1 23 rfl rfl
theorem dksX31_third_3 : cX31_third.data.toList.drop 69 = dktX31_third_3 := dk_seg dksX31_third_2 23 rfl rfl
theorem dksX31_third_4 : cX31_third.data.toList.drop 91 = dktX31_third_4 := dk_seg dksX31_third_3 22 rfl rfl
theorem dX31_third_0 : decode cX31_third 0 = .ok (.aload_n 0, 1) := dk_42 (dk_at dksX31_third_0 0 rfl rfl)
theorem dX31_third_1 : decode cX31_third 1 = .ok (.iload_n 1, 1) := dk_27 (dk_at dksX31_third_0 1 rfl rfl)
theorem dX31_third_2 : decode cX31_third 2 = .ok (.invokevirtual 126, 3) := dk_182 0 126 (dk_at dksX31_third_0 2 rfl rfl)
theorem dX31_third_5 : decode cX31_third 5 = .ok (.ifCond .eq 27, 3) := dk_153 0 27 (dk_at dksX31_third_0 5 rfl rfl)
theorem dX31_third_8 : decode cX31_third 8 = .ok (.aload_n 0, 1) := dk_42 (dk_at dksX31_third_0 8 rfl rfl)
theorem dX31_third_9 : decode cX31_third 9 = .ok (.getfield 18, 3) := dk_180 0 18 (dk_at dksX31_third_0 9 rfl rfl)
theorem dX31_third_12 : decode cX31_third 12 = .ok (.iload_n 1, 1) := dk_27 (dk_at dksX31_third_0 12 rfl rfl)
theorem dX31_third_13 : decode cX31_third 13 = .ok (.aaload, 1) := dk_50 (dk_at dksX31_third_0 13 rfl rfl)
theorem dX31_third_14 : decode cX31_third 14 = .ok (.getfield 133, 3) := dk_180 0 133 (dk_at dksX31_third_0 14 rfl rfl)
theorem dX31_third_17 : decode cX31_third 17 = .ok (.ifCond .eq 15, 3) := dk_153 0 15 (dk_at dksX31_third_0 17 rfl rfl)
theorem dX31_third_20 : decode cX31_third 20 = .ok (.lload_n 2, 1) := dk_32 (dk_at dksX31_third_0 20 rfl rfl)
theorem dX31_third_21 : decode cX31_third 21 = .ok (.lload 4, 2) := dk_22 4 (dk_at dksX31_third_0 21 rfl rfl)
theorem dX31_third_23 : decode cX31_third 23 = .ok (.ldc2_w 148, 3) := dk_20 0 148 (dk_at dksX31_third_1 0 rfl rfl)
theorem dX31_third_26 : decode cX31_third 26 = .ok (.invokestatic 77, 3) := dk_184 0 77 (dk_at dksX31_third_1 3 rfl rfl)
theorem dX31_third_29 : decode cX31_third 29 = .ok (.ifCond .ne 5, 3) := dk_154 0 5 (dk_at dksX31_third_1 6 rfl rfl)
theorem dX31_third_32 : decode cX31_third 32 = .ok (.iconst (-1), 1) := dk_2 (dk_at dksX31_third_1 9 rfl rfl)
theorem dX31_third_33 : decode cX31_third 33 = .ok (.ireturn, 1) := dk_172 (dk_at dksX31_third_1 10 rfl rfl)
theorem dX31_third_34 : decode cX31_third 34 = .ok (.aload_n 0, 1) := dk_42 (dk_at dksX31_third_1 11 rfl rfl)
theorem dX31_third_35 : decode cX31_third 35 = .ok (.getfield 18, 3) := dk_180 0 18 (dk_at dksX31_third_1 12 rfl rfl)
theorem dX31_third_38 : decode cX31_third 38 = .ok (.iload_n 1, 1) := dk_27 (dk_at dksX31_third_1 15 rfl rfl)
theorem dX31_third_39 : decode cX31_third 39 = .ok (.aaload, 1) := dk_50 (dk_at dksX31_third_1 16 rfl rfl)
theorem dX31_third_40 : decode cX31_third 40 = .ok (.astore 6, 2) := dk_58 6 (dk_at dksX31_third_1 17 rfl rfl)
theorem dX31_third_42 : decode cX31_third 42 = .ok (.aload_n 0, 1) := dk_42 (dk_at dksX31_third_1 19 rfl rfl)
theorem dX31_third_43 : decode cX31_third 43 = .ok (.getfield 46, 3) := dk_180 0 46 (dk_at dksX31_third_1 20 rfl rfl)
theorem dX31_third_46 : decode cX31_third 46 = .ok (.aload 6, 2) := dk_25 6 (dk_at dksX31_third_2 0 rfl rfl)
theorem dX31_third_48 : decode cX31_third 48 = .ok (.getfield 142, 3) := dk_180 0 142 (dk_at dksX31_third_2 2 rfl rfl)
theorem dX31_third_51 : decode cX31_third 51 = .ok (.iconst 0, 1) := dk_3 (dk_at dksX31_third_2 5 rfl rfl)
theorem dX31_third_52 : decode cX31_third 52 = .ok (.laload, 1) := dk_47 (dk_at dksX31_third_2 6 rfl rfl)
theorem dX31_third_53 : decode cX31_third 53 = .ok (.aload 6, 2) := dk_25 6 (dk_at dksX31_third_2 7 rfl rfl)
theorem dX31_third_55 : decode cX31_third 55 = .ok (.getfield 145, 3) := dk_180 0 145 (dk_at dksX31_third_2 9 rfl rfl)
theorem dX31_third_58 : decode cX31_third 58 = .ok (.invokevirtual 67, 3) := dk_182 0 67 (dk_at dksX31_third_2 12 rfl rfl)
theorem dX31_third_61 : decode cX31_third 61 = .ok (.aload_n 0, 1) := dk_42 (dk_at dksX31_third_2 15 rfl rfl)
theorem dX31_third_62 : decode cX31_third 62 = .ok (.aload_n 0, 1) := dk_42 (dk_at dksX31_third_2 16 rfl rfl)
theorem dX31_third_63 : decode cX31_third 63 = .ok (.getfield 46, 3) := dk_180 0 46 (dk_at dksX31_third_2 17 rfl rfl)
theorem dX31_third_66 : decode cX31_third 66 = .ok (.invokevirtual 168, 3) := dk_182 0 168 (dk_at dksX31_third_2 20 rfl rfl)
theorem dX31_third_69 : decode cX31_third 69 = .ok (.istore 7, 2) := dk_54 7 (dk_at dksX31_third_3 0 rfl rfl)
theorem dX31_third_71 : decode cX31_third 71 = .ok (.aload 6, 2) := dk_25 6 (dk_at dksX31_third_3 2 rfl rfl)
theorem dX31_third_73 : decode cX31_third 73 = .ok (.iconst 1, 1) := dk_4 (dk_at dksX31_third_3 4 rfl rfl)
theorem dX31_third_74 : decode cX31_third 74 = .ok (.putfield 155, 3) := dk_181 0 155 (dk_at dksX31_third_3 5 rfl rfl)
theorem dX31_third_77 : decode cX31_third 77 = .ok (.aload 6, 2) := dk_25 6 (dk_at dksX31_third_3 8 rfl rfl)
theorem dX31_third_79 : decode cX31_third 79 = .ok (.getfield 158, 3) := dk_180 0 158 (dk_at dksX31_third_3 10 rfl rfl)
theorem dX31_third_82 : decode cX31_third 82 = .ok (.lload_n 2, 1) := dk_32 (dk_at dksX31_third_3 13 rfl rfl)
theorem dX31_third_83 : decode cX31_third 83 = .ok (.lload 4, 2) := dk_22 4 (dk_at dksX31_third_3 14 rfl rfl)
theorem dX31_third_85 : decode cX31_third 85 = .ok (.invokevirtual 67, 3) := dk_182 0 67 (dk_at dksX31_third_3 16 rfl rfl)
theorem dX31_third_88 : decode cX31_third 88 = .ok (.aload_n 0, 1) := dk_42 (dk_at dksX31_third_3 19 rfl rfl)
theorem dX31_third_89 : decode cX31_third 89 = .ok (.aload 6, 2) := dk_25 6 (dk_at dksX31_third_3 20 rfl rfl)
theorem dX31_third_91 : decode cX31_third 91 = .ok (.getfield 158, 3) := dk_180 0 158 (dk_at dksX31_third_4 0 rfl rfl)
theorem dX31_third_94 : decode cX31_third 94 = .ok (.invokevirtual 168, 3) := dk_182 0 168 (dk_at dksX31_third_4 3 rfl rfl)
theorem dX31_third_97 : decode cX31_third 97 = .ok (.iload 7, 2) := dk_21 7 (dk_at dksX31_third_4 6 rfl rfl)
theorem dX31_third_99 : decode cX31_third 99 = .ok (.if_icmp .lt 7, 3) := dk_161 0 7 (dk_at dksX31_third_4 8 rfl rfl)
theorem dX31_third_102 : decode cX31_third 102 = .ok (.iconst 1, 1) := dk_4 (dk_at dksX31_third_4 11 rfl rfl)
theorem dX31_third_103 : decode cX31_third 103 = .ok (.goto 4, 3) := dk_167 0 4 (dk_at dksX31_third_4 12 rfl rfl)
theorem dX31_third_106 : decode cX31_third 106 = .ok (.iconst 0, 1) := dk_3 (dk_at dksX31_third_4 15 rfl rfl)
theorem dX31_third_107 : decode cX31_third 107 = .ok (.ireturn, 1) := dk_172 (dk_at dksX31_third_4 16 rfl rfl)
abbrev cX31_place : ByteArray := prog_32_method_23_code
def yX31_place : MethodName := ⟨RX31, "place", "(II)I"⟩
def dkwX31_place_1 : List UInt8 := [27, 50, 180, 0, 173, 28, 51, 167, 0, 4, 2, 172]
abbrev dktX31_place_1 : List UInt8 := dkwX31_place_1 ++ []
def dkwX31_place_0 : List UInt8 := [42, 27, 182, 0, 126, 153, 0, 29, 28, 133, 9, 20, 0, 171, 184, 0, 57, 153, 0, 17, 42, 180, 0, 18]
abbrev dktX31_place_0 : List UInt8 := dkwX31_place_0 ++ dktX31_place_1
theorem dksX31_place_0 : cX31_place.data.toList.drop 0 = dktX31_place_0 := by decide +kernel
theorem dksX31_place_1 : cX31_place.data.toList.drop 24 = dktX31_place_1 := dk_seg dksX31_place_0 24 rfl rfl
theorem dX31_place_0 : decode cX31_place 0 = .ok (.aload_n 0, 1) := dk_42 (dk_at dksX31_place_0 0 rfl rfl)
theorem dX31_place_1 : decode cX31_place 1 = .ok (.iload_n 1, 1) := dk_27 (dk_at dksX31_place_0 1 rfl rfl)
theorem dX31_place_2 : decode cX31_place 2 = .ok (.invokevirtual 126, 3) := dk_182 0 126 (dk_at dksX31_place_0 2 rfl rfl)
theorem dX31_place_5 : decode cX31_place 5 = .ok (.ifCond .eq 29, 3) := dk_153 0 29 (dk_at dksX31_place_0 5 rfl rfl)
theorem dX31_place_8 : decode cX31_place 8 = .ok (.iload_n 2, 1) := dk_28 (dk_at dksX31_place_0 8 rfl rfl)
theorem dX31_place_9 : decode cX31_place 9 = .ok (.i2l, 1) := dk_133 (dk_at dksX31_place_0 9 rfl rfl)
theorem dX31_place_10 : decode cX31_place 10 = .ok (.lconst 0, 1) := dk_9 (dk_at dksX31_place_0 10 rfl rfl)
theorem dX31_place_11 : decode cX31_place 11 = .ok (.ldc2_w 171, 3) := dk_20 0 171 (dk_at dksX31_place_0 11 rfl rfl)
theorem dX31_place_14 : decode cX31_place 14 = .ok (.invokestatic 57, 3) := dk_184 0 57 (dk_at dksX31_place_0 14 rfl rfl)
theorem dX31_place_17 : decode cX31_place 17 = .ok (.ifCond .eq 17, 3) := dk_153 0 17 (dk_at dksX31_place_0 17 rfl rfl)
theorem dX31_place_20 : decode cX31_place 20 = .ok (.aload_n 0, 1) := dk_42 (dk_at dksX31_place_0 20 rfl rfl)
theorem dX31_place_21 : decode cX31_place 21 = .ok (.getfield 18, 3) := dk_180 0 18 (dk_at dksX31_place_0 21 rfl rfl)
theorem dX31_place_24 : decode cX31_place 24 = .ok (.iload_n 1, 1) := dk_27 (dk_at dksX31_place_1 0 rfl rfl)
theorem dX31_place_25 : decode cX31_place 25 = .ok (.aaload, 1) := dk_50 (dk_at dksX31_place_1 1 rfl rfl)
theorem dX31_place_26 : decode cX31_place 26 = .ok (.getfield 173, 3) := dk_180 0 173 (dk_at dksX31_place_1 2 rfl rfl)
theorem dX31_place_29 : decode cX31_place 29 = .ok (.iload_n 2, 1) := dk_28 (dk_at dksX31_place_1 5 rfl rfl)
theorem dX31_place_30 : decode cX31_place 30 = .ok (.baload, 1) := dk_51 (dk_at dksX31_place_1 6 rfl rfl)
theorem dX31_place_31 : decode cX31_place 31 = .ok (.goto 4, 3) := dk_167 0 4 (dk_at dksX31_place_1 7 rfl rfl)
theorem dX31_place_34 : decode cX31_place 34 = .ok (.iconst (-1), 1) := dk_2 (dk_at dksX31_place_1 10 rfl rfl)
theorem dX31_place_35 : decode cX31_place 35 = .ok (.ireturn, 1) := dk_172 (dk_at dksX31_place_1 11 rfl rfl)
abbrev cX31_dry : ByteArray := prog_32_method_24_code
def yX31_dry : MethodName := ⟨RX31, "dry", "(IJJ)Z"⟩
def dkwX31_dry_5 : List UInt8 := [25, 6, 89, 180, 0, 177, 90, 4, 96, 181, 0, 177, 22, 4, 136, 79, 4, 172]
abbrev dktX31_dry_5 : List UInt8 := dkwX31_dry_5 ++ []
def dkwX31_dry_4 : List UInt8 := [148, 158, 0, 5, 3, 172, 25, 6, 180, 0, 180, 25, 6, 180, 0, 177, 32, 136, 79, 25, 6, 180, 0, 183]
abbrev dktX31_dry_4 : List UInt8 := dkwX31_dry_4 ++ dktX31_dry_5
def dkwX31_dry_3 : List UInt8 := [4, 100, 46, 133, 148, 158, 0, 23, 22, 4, 25, 6, 180, 0, 183, 25, 6, 180, 0, 177, 4, 100, 46, 133]
abbrev dktX31_dry_3 : List UInt8 := dkwX31_dry_3 ++ dktX31_dry_4
def dkwX31_dry_2 : List UInt8 := [16, 20, 159, 0, 50, 25, 6, 180, 0, 177, 158, 0, 44, 32, 25, 6, 180, 0, 180, 25, 6, 180, 0, 177]
abbrev dktX31_dry_2 : List UInt8 := dkwX31_dry_2 ++ dktX31_dry_3
def dkwX31_dry_1 : List UInt8 := [20, 0, 115, 184, 0, 57, 154, 0, 5, 3, 172, 42, 180, 0, 18, 27, 50, 58, 6, 25, 6, 180, 0, 177]
abbrev dktX31_dry_1 : List UInt8 := dkwX31_dry_1 ++ dktX31_dry_2
def dkwX31_dry_0 : List UInt8 := [42, 27, 182, 0, 126, 153, 0, 26, 32, 9, 20, 0, 131, 184, 0, 57, 153, 0, 15, 22, 4, 10]
abbrev dktX31_dry_0 : List UInt8 := dkwX31_dry_0 ++ dktX31_dry_1
theorem dksX31_dry_0 : cX31_dry.data.toList.drop 0 = dktX31_dry_0 := by decide +kernel
theorem dksX31_dry_1 : cX31_dry.data.toList.drop 22 = dktX31_dry_1 := dk_seg dksX31_dry_0 22 rfl rfl
theorem dksX31_dry_2 : cX31_dry.data.toList.drop 46 = dktX31_dry_2 := dk_seg dksX31_dry_1 24 rfl rfl
theorem dksX31_dry_3 : cX31_dry.data.toList.drop 70 = dktX31_dry_3 := dk_seg dksX31_dry_2 24 rfl rfl
theorem dksX31_dry_4 : cX31_dry.data.toList.drop 94 = dktX31_dry_4 := dk_seg dksX31_dry_3 24 rfl rfl
theorem dksX31_dry_5 : cX31_dry.data.toList.drop 118 = dktX31_dry_5 := dk_seg dksX31_dry_4 24 rfl rfl
theorem dX31_dry_0 : decode cX31_dry 0 = .ok (.aload_n 0, 1) := dk_42 (dk_at dksX31_dry_0 0 rfl rfl)
theorem dX31_dry_1 : decode cX31_dry 1 = .ok (.iload_n 1, 1) := dk_27 (dk_at dksX31_dry_0 1 rfl rfl)
theorem dX31_dry_2 : decode cX31_dry 2 = .ok (.invokevirtual 126, 3) := dk_182 0 126 (dk_at dksX31_dry_0 2 rfl rfl)
theorem dX31_dry_5 : decode cX31_dry 5 = .ok (.ifCond .eq 26, 3) := dk_153 0 26 (dk_at dksX31_dry_0 5 rfl rfl)
theorem dX31_dry_8 : decode cX31_dry 8 = .ok (.lload_n 2, 1) := dk_32 (dk_at dksX31_dry_0 8 rfl rfl)
theorem dX31_dry_9 : decode cX31_dry 9 = .ok (.lconst 0, 1) := dk_9 (dk_at dksX31_dry_0 9 rfl rfl)
theorem dX31_dry_10 : decode cX31_dry 10 = .ok (.ldc2_w 131, 3) := dk_20 0 131 (dk_at dksX31_dry_0 10 rfl rfl)
theorem dX31_dry_13 : decode cX31_dry 13 = .ok (.invokestatic 57, 3) := dk_184 0 57 (dk_at dksX31_dry_0 13 rfl rfl)
theorem dX31_dry_16 : decode cX31_dry 16 = .ok (.ifCond .eq 15, 3) := dk_153 0 15 (dk_at dksX31_dry_0 16 rfl rfl)
theorem dX31_dry_19 : decode cX31_dry 19 = .ok (.lload 4, 2) := dk_22 4 (dk_at dksX31_dry_0 19 rfl rfl)
theorem dX31_dry_21 : decode cX31_dry 21 = .ok (.lconst 1, 1) := dk_10 (dk_at dksX31_dry_0 21 rfl rfl)
theorem dX31_dry_22 : decode cX31_dry 22 = .ok (.ldc2_w 115, 3) := dk_20 0 115 (dk_at dksX31_dry_1 0 rfl rfl)
theorem dX31_dry_25 : decode cX31_dry 25 = .ok (.invokestatic 57, 3) := dk_184 0 57 (dk_at dksX31_dry_1 3 rfl rfl)
theorem dX31_dry_28 : decode cX31_dry 28 = .ok (.ifCond .ne 5, 3) := dk_154 0 5 (dk_at dksX31_dry_1 6 rfl rfl)
theorem dX31_dry_31 : decode cX31_dry 31 = .ok (.iconst 0, 1) := dk_3 (dk_at dksX31_dry_1 9 rfl rfl)
theorem dX31_dry_32 : decode cX31_dry 32 = .ok (.ireturn, 1) := dk_172 (dk_at dksX31_dry_1 10 rfl rfl)
theorem dX31_dry_33 : decode cX31_dry 33 = .ok (.aload_n 0, 1) := dk_42 (dk_at dksX31_dry_1 11 rfl rfl)
theorem dX31_dry_34 : decode cX31_dry 34 = .ok (.getfield 18, 3) := dk_180 0 18 (dk_at dksX31_dry_1 12 rfl rfl)
theorem dX31_dry_37 : decode cX31_dry 37 = .ok (.iload_n 1, 1) := dk_27 (dk_at dksX31_dry_1 15 rfl rfl)
theorem dX31_dry_38 : decode cX31_dry 38 = .ok (.aaload, 1) := dk_50 (dk_at dksX31_dry_1 16 rfl rfl)
theorem dX31_dry_39 : decode cX31_dry 39 = .ok (.astore 6, 2) := dk_58 6 (dk_at dksX31_dry_1 17 rfl rfl)
theorem dX31_dry_41 : decode cX31_dry 41 = .ok (.aload 6, 2) := dk_25 6 (dk_at dksX31_dry_1 19 rfl rfl)
theorem dX31_dry_43 : decode cX31_dry 43 = .ok (.getfield 177, 3) := dk_180 0 177 (dk_at dksX31_dry_1 21 rfl rfl)
theorem dX31_dry_46 : decode cX31_dry 46 = .ok (.bipush 20, 2) := dk_16 20 (dk_at dksX31_dry_2 0 rfl rfl)
theorem dX31_dry_48 : decode cX31_dry 48 = .ok (.if_icmp .eq 50, 3) := dk_159 0 50 (dk_at dksX31_dry_2 2 rfl rfl)
theorem dX31_dry_51 : decode cX31_dry 51 = .ok (.aload 6, 2) := dk_25 6 (dk_at dksX31_dry_2 5 rfl rfl)
theorem dX31_dry_53 : decode cX31_dry 53 = .ok (.getfield 177, 3) := dk_180 0 177 (dk_at dksX31_dry_2 7 rfl rfl)
theorem dX31_dry_56 : decode cX31_dry 56 = .ok (.ifCond .le 44, 3) := dk_158 0 44 (dk_at dksX31_dry_2 10 rfl rfl)
theorem dX31_dry_59 : decode cX31_dry 59 = .ok (.lload_n 2, 1) := dk_32 (dk_at dksX31_dry_2 13 rfl rfl)
theorem dX31_dry_60 : decode cX31_dry 60 = .ok (.aload 6, 2) := dk_25 6 (dk_at dksX31_dry_2 14 rfl rfl)
theorem dX31_dry_62 : decode cX31_dry 62 = .ok (.getfield 180, 3) := dk_180 0 180 (dk_at dksX31_dry_2 16 rfl rfl)
theorem dX31_dry_65 : decode cX31_dry 65 = .ok (.aload 6, 2) := dk_25 6 (dk_at dksX31_dry_2 19 rfl rfl)
theorem dX31_dry_67 : decode cX31_dry 67 = .ok (.getfield 177, 3) := dk_180 0 177 (dk_at dksX31_dry_2 21 rfl rfl)
theorem dX31_dry_70 : decode cX31_dry 70 = .ok (.iconst 1, 1) := dk_4 (dk_at dksX31_dry_3 0 rfl rfl)
theorem dX31_dry_71 : decode cX31_dry 71 = .ok (.isub, 1) := dk_100 (dk_at dksX31_dry_3 1 rfl rfl)
theorem dX31_dry_72 : decode cX31_dry 72 = .ok (.iaload, 1) := dk_46 (dk_at dksX31_dry_3 2 rfl rfl)
theorem dX31_dry_73 : decode cX31_dry 73 = .ok (.i2l, 1) := dk_133 (dk_at dksX31_dry_3 3 rfl rfl)
theorem dX31_dry_74 : decode cX31_dry 74 = .ok (.lcmp, 1) := dk_148 (dk_at dksX31_dry_3 4 rfl rfl)
theorem dX31_dry_75 : decode cX31_dry 75 = .ok (.ifCond .le 23, 3) := dk_158 0 23 (dk_at dksX31_dry_3 5 rfl rfl)
theorem dX31_dry_78 : decode cX31_dry 78 = .ok (.lload 4, 2) := dk_22 4 (dk_at dksX31_dry_3 8 rfl rfl)
theorem dX31_dry_80 : decode cX31_dry 80 = .ok (.aload 6, 2) := dk_25 6 (dk_at dksX31_dry_3 10 rfl rfl)
theorem dX31_dry_82 : decode cX31_dry 82 = .ok (.getfield 183, 3) := dk_180 0 183 (dk_at dksX31_dry_3 12 rfl rfl)
theorem dX31_dry_85 : decode cX31_dry 85 = .ok (.aload 6, 2) := dk_25 6 (dk_at dksX31_dry_3 15 rfl rfl)
theorem dX31_dry_87 : decode cX31_dry 87 = .ok (.getfield 177, 3) := dk_180 0 177 (dk_at dksX31_dry_3 17 rfl rfl)
theorem dX31_dry_90 : decode cX31_dry 90 = .ok (.iconst 1, 1) := dk_4 (dk_at dksX31_dry_3 20 rfl rfl)
theorem dX31_dry_91 : decode cX31_dry 91 = .ok (.isub, 1) := dk_100 (dk_at dksX31_dry_3 21 rfl rfl)
theorem dX31_dry_92 : decode cX31_dry 92 = .ok (.iaload, 1) := dk_46 (dk_at dksX31_dry_3 22 rfl rfl)
theorem dX31_dry_93 : decode cX31_dry 93 = .ok (.i2l, 1) := dk_133 (dk_at dksX31_dry_3 23 rfl rfl)
theorem dX31_dry_94 : decode cX31_dry 94 = .ok (.lcmp, 1) := dk_148 (dk_at dksX31_dry_4 0 rfl rfl)
theorem dX31_dry_95 : decode cX31_dry 95 = .ok (.ifCond .le 5, 3) := dk_158 0 5 (dk_at dksX31_dry_4 1 rfl rfl)
theorem dX31_dry_98 : decode cX31_dry 98 = .ok (.iconst 0, 1) := dk_3 (dk_at dksX31_dry_4 4 rfl rfl)
theorem dX31_dry_99 : decode cX31_dry 99 = .ok (.ireturn, 1) := dk_172 (dk_at dksX31_dry_4 5 rfl rfl)
theorem dX31_dry_100 : decode cX31_dry 100 = .ok (.aload 6, 2) := dk_25 6 (dk_at dksX31_dry_4 6 rfl rfl)
theorem dX31_dry_102 : decode cX31_dry 102 = .ok (.getfield 180, 3) := dk_180 0 180 (dk_at dksX31_dry_4 8 rfl rfl)
theorem dX31_dry_105 : decode cX31_dry 105 = .ok (.aload 6, 2) := dk_25 6 (dk_at dksX31_dry_4 11 rfl rfl)
theorem dX31_dry_107 : decode cX31_dry 107 = .ok (.getfield 177, 3) := dk_180 0 177 (dk_at dksX31_dry_4 13 rfl rfl)
theorem dX31_dry_110 : decode cX31_dry 110 = .ok (.lload_n 2, 1) := dk_32 (dk_at dksX31_dry_4 16 rfl rfl)
theorem dX31_dry_111 : decode cX31_dry 111 = .ok (.l2i, 1) := dk_136 (dk_at dksX31_dry_4 17 rfl rfl)
theorem dX31_dry_112 : decode cX31_dry 112 = .ok (.iastore, 1) := dk_79 (dk_at dksX31_dry_4 18 rfl rfl)
theorem dX31_dry_113 : decode cX31_dry 113 = .ok (.aload 6, 2) := dk_25 6 (dk_at dksX31_dry_4 19 rfl rfl)
theorem dX31_dry_115 : decode cX31_dry 115 = .ok (.getfield 183, 3) := dk_180 0 183 (dk_at dksX31_dry_4 21 rfl rfl)
theorem dX31_dry_118 : decode cX31_dry 118 = .ok (.aload 6, 2) := dk_25 6 (dk_at dksX31_dry_5 0 rfl rfl)
theorem dX31_dry_120 : decode cX31_dry 120 = .ok (.dup, 1) := dk_89 (dk_at dksX31_dry_5 2 rfl rfl)
theorem dX31_dry_121 : decode cX31_dry 121 = .ok (.getfield 177, 3) := dk_180 0 177 (dk_at dksX31_dry_5 3 rfl rfl)
theorem dX31_dry_124 : decode cX31_dry 124 = .ok (.dup_x1, 1) := dk_90 (dk_at dksX31_dry_5 6 rfl rfl)
theorem dX31_dry_125 : decode cX31_dry 125 = .ok (.iconst 1, 1) := dk_4 (dk_at dksX31_dry_5 7 rfl rfl)
theorem dX31_dry_126 : decode cX31_dry 126 = .ok (.iadd, 1) := dk_96 (dk_at dksX31_dry_5 8 rfl rfl)
theorem dX31_dry_127 : decode cX31_dry 127 = .ok (.putfield 177, 3) := dk_181 0 177 (dk_at dksX31_dry_5 9 rfl rfl)
theorem dX31_dry_130 : decode cX31_dry 130 = .ok (.lload 4, 2) := dk_22 4 (dk_at dksX31_dry_5 12 rfl rfl)
theorem dX31_dry_132 : decode cX31_dry 132 = .ok (.l2i, 1) := dk_136 (dk_at dksX31_dry_5 14 rfl rfl)
theorem dX31_dry_133 : decode cX31_dry 133 = .ok (.iastore, 1) := dk_79 (dk_at dksX31_dry_5 15 rfl rfl)
theorem dX31_dry_134 : decode cX31_dry 134 = .ok (.iconst 1, 1) := dk_4 (dk_at dksX31_dry_5 16 rfl rfl)
theorem dX31_dry_135 : decode cX31_dry 135 = .ok (.ireturn, 1) := dk_172 (dk_at dksX31_dry_5 17 rfl rfl)
abbrev cX31_moisture : ByteArray := prog_32_method_25_code
def yX31_moisture : MethodName := ⟨RX31, "moisture", "(II)J"⟩
def dkwX31_moisture_3 : List UInt8 := [182, 0, 86, 173]
abbrev dktX31_moisture_3 : List UInt8 := dkwX31_moisture_3 ++ []
def dkwX31_moisture_2 : List UInt8 := [180, 0, 177, 4, 100, 46, 100, 133, 45, 180, 0, 183, 3, 46, 133, 182, 0, 67, 42, 180, 0, 43, 28]
abbrev dktX31_moisture_2 : List UInt8 := dkwX31_moisture_2 ++ dktX31_moisture_3
def dkwX31_moisture_1 : List UInt8 := [42, 180, 0, 18, 27, 50, 78, 42, 180, 0, 43, 45, 180, 0, 183, 3, 46, 45, 180, 0, 183, 45]
abbrev dktX31_moisture_1 : List UInt8 := dkwX31_moisture_1 ++ dktX31_moisture_2
def dkwX31_moisture_0 : List UInt8 := [42, 27, 182, 0, 126, 153, 0, 15, 42, 180, 0, 18, 27, 50, 182, 0, 186, 154, 0, 7, 20, 0, 80, 173]
abbrev dktX31_moisture_0 : List UInt8 := dkwX31_moisture_0 ++ dktX31_moisture_1
theorem dksX31_moisture_0 : cX31_moisture.data.toList.drop 0 = dktX31_moisture_0 := by decide +kernel
theorem dksX31_moisture_1 : cX31_moisture.data.toList.drop 24 = dktX31_moisture_1 := dk_seg dksX31_moisture_0 24 rfl rfl
theorem dksX31_moisture_2 : cX31_moisture.data.toList.drop 46 = dktX31_moisture_2 := dk_seg dksX31_moisture_1 22 rfl rfl
theorem dksX31_moisture_3 : cX31_moisture.data.toList.drop 69 = dktX31_moisture_3 := dk_seg dksX31_moisture_2 23 rfl rfl
theorem dX31_moisture_0 : decode cX31_moisture 0 = .ok (.aload_n 0, 1) := dk_42 (dk_at dksX31_moisture_0 0 rfl rfl)
theorem dX31_moisture_1 : decode cX31_moisture 1 = .ok (.iload_n 1, 1) := dk_27 (dk_at dksX31_moisture_0 1 rfl rfl)
theorem dX31_moisture_2 : decode cX31_moisture 2 = .ok (.invokevirtual 126, 3) := dk_182 0 126 (dk_at dksX31_moisture_0 2 rfl rfl)
theorem dX31_moisture_5 : decode cX31_moisture 5 = .ok (.ifCond .eq 15, 3) := dk_153 0 15 (dk_at dksX31_moisture_0 5 rfl rfl)
theorem dX31_moisture_8 : decode cX31_moisture 8 = .ok (.aload_n 0, 1) := dk_42 (dk_at dksX31_moisture_0 8 rfl rfl)
theorem dX31_moisture_9 : decode cX31_moisture 9 = .ok (.getfield 18, 3) := dk_180 0 18 (dk_at dksX31_moisture_0 9 rfl rfl)
theorem dX31_moisture_12 : decode cX31_moisture 12 = .ok (.iload_n 1, 1) := dk_27 (dk_at dksX31_moisture_0 12 rfl rfl)
theorem dX31_moisture_13 : decode cX31_moisture 13 = .ok (.aaload, 1) := dk_50 (dk_at dksX31_moisture_0 13 rfl rfl)
theorem dX31_moisture_14 : decode cX31_moisture 14 = .ok (.invokevirtual 186, 3) := dk_182 0 186 (dk_at dksX31_moisture_0 14 rfl rfl)
theorem dX31_moisture_17 : decode cX31_moisture 17 = .ok (.ifCond .ne 7, 3) := dk_154 0 7 (dk_at dksX31_moisture_0 17 rfl rfl)
theorem dX31_moisture_20 : decode cX31_moisture 20 = .ok (.ldc2_w 80, 3) := dk_20 0 80 (dk_at dksX31_moisture_0 20 rfl rfl)
theorem dX31_moisture_23 : decode cX31_moisture 23 = .ok (.lreturn, 1) := dk_173 (dk_at dksX31_moisture_0 23 rfl rfl)
theorem dX31_moisture_24 : decode cX31_moisture 24 = .ok (.aload_n 0, 1) := dk_42 (dk_at dksX31_moisture_1 0 rfl rfl)
theorem dX31_moisture_25 : decode cX31_moisture 25 = .ok (.getfield 18, 3) := dk_180 0 18 (dk_at dksX31_moisture_1 1 rfl rfl)
theorem dX31_moisture_28 : decode cX31_moisture 28 = .ok (.iload_n 1, 1) := dk_27 (dk_at dksX31_moisture_1 4 rfl rfl)
theorem dX31_moisture_29 : decode cX31_moisture 29 = .ok (.aaload, 1) := dk_50 (dk_at dksX31_moisture_1 5 rfl rfl)
theorem dX31_moisture_30 : decode cX31_moisture 30 = .ok (.astore_n 3, 1) := dk_78 (dk_at dksX31_moisture_1 6 rfl rfl)
theorem dX31_moisture_31 : decode cX31_moisture 31 = .ok (.aload_n 0, 1) := dk_42 (dk_at dksX31_moisture_1 7 rfl rfl)
theorem dX31_moisture_32 : decode cX31_moisture 32 = .ok (.getfield 43, 3) := dk_180 0 43 (dk_at dksX31_moisture_1 8 rfl rfl)
theorem dX31_moisture_35 : decode cX31_moisture 35 = .ok (.aload_n 3, 1) := dk_45 (dk_at dksX31_moisture_1 11 rfl rfl)
theorem dX31_moisture_36 : decode cX31_moisture 36 = .ok (.getfield 183, 3) := dk_180 0 183 (dk_at dksX31_moisture_1 12 rfl rfl)
theorem dX31_moisture_39 : decode cX31_moisture 39 = .ok (.iconst 0, 1) := dk_3 (dk_at dksX31_moisture_1 15 rfl rfl)
theorem dX31_moisture_40 : decode cX31_moisture 40 = .ok (.iaload, 1) := dk_46 (dk_at dksX31_moisture_1 16 rfl rfl)
theorem dX31_moisture_41 : decode cX31_moisture 41 = .ok (.aload_n 3, 1) := dk_45 (dk_at dksX31_moisture_1 17 rfl rfl)
theorem dX31_moisture_42 : decode cX31_moisture 42 = .ok (.getfield 183, 3) := dk_180 0 183 (dk_at dksX31_moisture_1 18 rfl rfl)
theorem dX31_moisture_45 : decode cX31_moisture 45 = .ok (.aload_n 3, 1) := dk_45 (dk_at dksX31_moisture_1 21 rfl rfl)
theorem dX31_moisture_46 : decode cX31_moisture 46 = .ok (.getfield 177, 3) := dk_180 0 177 (dk_at dksX31_moisture_2 0 rfl rfl)
theorem dX31_moisture_49 : decode cX31_moisture 49 = .ok (.iconst 1, 1) := dk_4 (dk_at dksX31_moisture_2 3 rfl rfl)
theorem dX31_moisture_50 : decode cX31_moisture 50 = .ok (.isub, 1) := dk_100 (dk_at dksX31_moisture_2 4 rfl rfl)
theorem dX31_moisture_51 : decode cX31_moisture 51 = .ok (.iaload, 1) := dk_46 (dk_at dksX31_moisture_2 5 rfl rfl)
theorem dX31_moisture_52 : decode cX31_moisture 52 = .ok (.isub, 1) := dk_100 (dk_at dksX31_moisture_2 6 rfl rfl)
theorem dX31_moisture_53 : decode cX31_moisture 53 = .ok (.i2l, 1) := dk_133 (dk_at dksX31_moisture_2 7 rfl rfl)
theorem dX31_moisture_54 : decode cX31_moisture 54 = .ok (.aload_n 3, 1) := dk_45 (dk_at dksX31_moisture_2 8 rfl rfl)
theorem dX31_moisture_55 : decode cX31_moisture 55 = .ok (.getfield 183, 3) := dk_180 0 183 (dk_at dksX31_moisture_2 9 rfl rfl)
theorem dX31_moisture_58 : decode cX31_moisture 58 = .ok (.iconst 0, 1) := dk_3 (dk_at dksX31_moisture_2 12 rfl rfl)
theorem dX31_moisture_59 : decode cX31_moisture 59 = .ok (.iaload, 1) := dk_46 (dk_at dksX31_moisture_2 13 rfl rfl)
theorem dX31_moisture_60 : decode cX31_moisture 60 = .ok (.i2l, 1) := dk_133 (dk_at dksX31_moisture_2 14 rfl rfl)
theorem dX31_moisture_61 : decode cX31_moisture 61 = .ok (.invokevirtual 67, 3) := dk_182 0 67 (dk_at dksX31_moisture_2 15 rfl rfl)
theorem dX31_moisture_64 : decode cX31_moisture 64 = .ok (.aload_n 0, 1) := dk_42 (dk_at dksX31_moisture_2 18 rfl rfl)
theorem dX31_moisture_65 : decode cX31_moisture 65 = .ok (.getfield 43, 3) := dk_180 0 43 (dk_at dksX31_moisture_2 19 rfl rfl)
theorem dX31_moisture_68 : decode cX31_moisture 68 = .ok (.iload_n 2, 1) := dk_28 (dk_at dksX31_moisture_2 22 rfl rfl)
theorem dX31_moisture_69 : decode cX31_moisture 69 = .ok (.invokevirtual 86, 3) := dk_182 0 86 (dk_at dksX31_moisture_3 0 rfl rfl)
theorem dX31_moisture_72 : decode cX31_moisture 72 = .ok (.lreturn, 1) := dk_173 (dk_at dksX31_moisture_3 3 rfl rfl)
abbrev cX31_trend : ByteArray := prog_32_method_22_code
def yX31_trend : MethodName := ⟨RX31, "trend", "(I)I"⟩
def dkwX31_trend_3 : List UInt8 := [167, 0, 4, 28, 172]
abbrev dktX31_trend_3 : List UInt8 := dkwX31_trend_3 ++ []
def dkwX31_trend_2 : List UInt8 := [180, 0, 46, 182, 0, 164, 42, 180, 0, 46, 42, 180, 0, 43, 182, 0, 104, 61, 28, 156, 0, 7, 5]
abbrev dktX31_trend_2 : List UInt8 := dkwX31_trend_2 ++ dktX31_trend_3
def dkwX31_trend_1 : List UInt8 := [180, 0, 18, 27, 50, 42, 180, 0, 43, 182, 0, 164, 42, 42, 180, 0, 18, 27, 4, 96, 50, 42]
abbrev dktX31_trend_1 : List UInt8 := dkwX31_trend_1 ++ dktX31_trend_2
def dkwX31_trend_0 : List UInt8 := [42, 27, 182, 0, 161, 153, 0, 13, 42, 27, 4, 96, 182, 0, 161, 154, 0, 5, 2, 172, 42, 42]
abbrev dktX31_trend_0 : List UInt8 := dkwX31_trend_0 ++ dktX31_trend_1
theorem dksX31_trend_0 : cX31_trend.data.toList.drop 0 = dktX31_trend_0 := by decide +kernel
theorem dksX31_trend_1 : cX31_trend.data.toList.drop 22 = dktX31_trend_1 := dk_seg dksX31_trend_0 22 rfl rfl
theorem dksX31_trend_2 : cX31_trend.data.toList.drop 44 = dktX31_trend_2 := dk_seg dksX31_trend_1 22 rfl rfl
theorem dksX31_trend_3 : cX31_trend.data.toList.drop 67 = dktX31_trend_3 := dk_seg dksX31_trend_2 23 rfl rfl
theorem dX31_trend_0 : decode cX31_trend 0 = .ok (.aload_n 0, 1) := dk_42 (dk_at dksX31_trend_0 0 rfl rfl)
theorem dX31_trend_1 : decode cX31_trend 1 = .ok (.iload_n 1, 1) := dk_27 (dk_at dksX31_trend_0 1 rfl rfl)
theorem dX31_trend_2 : decode cX31_trend 2 = .ok (.invokevirtual 161, 3) := dk_182 0 161 (dk_at dksX31_trend_0 2 rfl rfl)
theorem dX31_trend_5 : decode cX31_trend 5 = .ok (.ifCond .eq 13, 3) := dk_153 0 13 (dk_at dksX31_trend_0 5 rfl rfl)
theorem dX31_trend_8 : decode cX31_trend 8 = .ok (.aload_n 0, 1) := dk_42 (dk_at dksX31_trend_0 8 rfl rfl)
theorem dX31_trend_9 : decode cX31_trend 9 = .ok (.iload_n 1, 1) := dk_27 (dk_at dksX31_trend_0 9 rfl rfl)
theorem dX31_trend_10 : decode cX31_trend 10 = .ok (.iconst 1, 1) := dk_4 (dk_at dksX31_trend_0 10 rfl rfl)
theorem dX31_trend_11 : decode cX31_trend 11 = .ok (.iadd, 1) := dk_96 (dk_at dksX31_trend_0 11 rfl rfl)
theorem dX31_trend_12 : decode cX31_trend 12 = .ok (.invokevirtual 161, 3) := dk_182 0 161 (dk_at dksX31_trend_0 12 rfl rfl)
theorem dX31_trend_15 : decode cX31_trend 15 = .ok (.ifCond .ne 5, 3) := dk_154 0 5 (dk_at dksX31_trend_0 15 rfl rfl)
theorem dX31_trend_18 : decode cX31_trend 18 = .ok (.iconst (-1), 1) := dk_2 (dk_at dksX31_trend_0 18 rfl rfl)
theorem dX31_trend_19 : decode cX31_trend 19 = .ok (.ireturn, 1) := dk_172 (dk_at dksX31_trend_0 19 rfl rfl)
theorem dX31_trend_20 : decode cX31_trend 20 = .ok (.aload_n 0, 1) := dk_42 (dk_at dksX31_trend_0 20 rfl rfl)
theorem dX31_trend_21 : decode cX31_trend 21 = .ok (.aload_n 0, 1) := dk_42 (dk_at dksX31_trend_0 21 rfl rfl)
theorem dX31_trend_22 : decode cX31_trend 22 = .ok (.getfield 18, 3) := dk_180 0 18 (dk_at dksX31_trend_1 0 rfl rfl)
theorem dX31_trend_25 : decode cX31_trend 25 = .ok (.iload_n 1, 1) := dk_27 (dk_at dksX31_trend_1 3 rfl rfl)
theorem dX31_trend_26 : decode cX31_trend 26 = .ok (.aaload, 1) := dk_50 (dk_at dksX31_trend_1 4 rfl rfl)
theorem dX31_trend_27 : decode cX31_trend 27 = .ok (.aload_n 0, 1) := dk_42 (dk_at dksX31_trend_1 5 rfl rfl)
theorem dX31_trend_28 : decode cX31_trend 28 = .ok (.getfield 43, 3) := dk_180 0 43 (dk_at dksX31_trend_1 6 rfl rfl)
theorem dX31_trend_31 : decode cX31_trend 31 = .ok (.invokevirtual 164, 3) := dk_182 0 164 (dk_at dksX31_trend_1 9 rfl rfl)
theorem dX31_trend_34 : decode cX31_trend 34 = .ok (.aload_n 0, 1) := dk_42 (dk_at dksX31_trend_1 12 rfl rfl)
theorem dX31_trend_35 : decode cX31_trend 35 = .ok (.aload_n 0, 1) := dk_42 (dk_at dksX31_trend_1 13 rfl rfl)
theorem dX31_trend_36 : decode cX31_trend 36 = .ok (.getfield 18, 3) := dk_180 0 18 (dk_at dksX31_trend_1 14 rfl rfl)
theorem dX31_trend_39 : decode cX31_trend 39 = .ok (.iload_n 1, 1) := dk_27 (dk_at dksX31_trend_1 17 rfl rfl)
theorem dX31_trend_40 : decode cX31_trend 40 = .ok (.iconst 1, 1) := dk_4 (dk_at dksX31_trend_1 18 rfl rfl)
theorem dX31_trend_41 : decode cX31_trend 41 = .ok (.iadd, 1) := dk_96 (dk_at dksX31_trend_1 19 rfl rfl)
theorem dX31_trend_42 : decode cX31_trend 42 = .ok (.aaload, 1) := dk_50 (dk_at dksX31_trend_1 20 rfl rfl)
theorem dX31_trend_43 : decode cX31_trend 43 = .ok (.aload_n 0, 1) := dk_42 (dk_at dksX31_trend_1 21 rfl rfl)
theorem dX31_trend_44 : decode cX31_trend 44 = .ok (.getfield 46, 3) := dk_180 0 46 (dk_at dksX31_trend_2 0 rfl rfl)
theorem dX31_trend_47 : decode cX31_trend 47 = .ok (.invokevirtual 164, 3) := dk_182 0 164 (dk_at dksX31_trend_2 3 rfl rfl)
theorem dX31_trend_50 : decode cX31_trend 50 = .ok (.aload_n 0, 1) := dk_42 (dk_at dksX31_trend_2 6 rfl rfl)
theorem dX31_trend_51 : decode cX31_trend 51 = .ok (.getfield 46, 3) := dk_180 0 46 (dk_at dksX31_trend_2 7 rfl rfl)
theorem dX31_trend_54 : decode cX31_trend 54 = .ok (.aload_n 0, 1) := dk_42 (dk_at dksX31_trend_2 10 rfl rfl)
theorem dX31_trend_55 : decode cX31_trend 55 = .ok (.getfield 43, 3) := dk_180 0 43 (dk_at dksX31_trend_2 11 rfl rfl)
theorem dX31_trend_58 : decode cX31_trend 58 = .ok (.invokevirtual 104, 3) := dk_182 0 104 (dk_at dksX31_trend_2 14 rfl rfl)
theorem dX31_trend_61 : decode cX31_trend 61 = .ok (.istore_n 2, 1) := dk_61 (dk_at dksX31_trend_2 17 rfl rfl)
theorem dX31_trend_62 : decode cX31_trend 62 = .ok (.iload_n 2, 1) := dk_28 (dk_at dksX31_trend_2 18 rfl rfl)
theorem dX31_trend_63 : decode cX31_trend 63 = .ok (.ifCond .ge 7, 3) := dk_156 0 7 (dk_at dksX31_trend_2 19 rfl rfl)
theorem dX31_trend_66 : decode cX31_trend 66 = .ok (.iconst 2, 1) := dk_5 (dk_at dksX31_trend_2 22 rfl rfl)
theorem dX31_trend_67 : decode cX31_trend 67 = .ok (.goto 4, 3) := dk_167 0 4 (dk_at dksX31_trend_3 0 rfl rfl)
theorem dX31_trend_70 : decode cX31_trend 70 = .ok (.iload_n 2, 1) := dk_28 (dk_at dksX31_trend_3 3 rfl rfl)
theorem dX31_trend_71 : decode cX31_trend 71 = .ok (.ireturn, 1) := dk_172 (dk_at dksX31_trend_3 4 rfl rfl)
theorem q430 : (Jvm.Cond.initialized "WasteHouse$PurityOdds") ∈ lw_all := lw_g (lw_at lw_m1 38 rfl) rfl
theorem q1635 : (Jvm.Cond.instantiable "WasteHouse$PurityOdds" (16 : Nat)) ∈ lw_all := lw_g (lw_at lw_m6 43 rfl) rfl
theorem q1637 : (Jvm.Cond.instanceMethod ({ cls := "WasteHouse$PurityOdds", name := "<init>", desc := "(J)V" } : Jvm.MethodName)) ∈ lw_all := lw_g (lw_at lw_m6 45 rfl) rfl
theorem q1638 : (Jvm.Cond.code ({ cls := "WasteHouse$PurityOdds", name := "<init>", desc := "(J)V" } : Jvm.MethodName) prog_32_method_1_code (4 : Nat) (Option.none : Option Jvm.ClassFile.FieldType)) ∈ lw_all := lw_g (lw_at lw_m6 46 rfl) rfl
theorem q1639 : (Jvm.Cond.methodLink "WasteHouse$PurityOdds" (1 : Nat) ({ cls := "java/lang/Object", name := "<init>", desc := "()V" } : Jvm.MethodName)) ∈ lw_all := lw_g (lw_at lw_m6 47 rfl) rfl
theorem q1640 : (Jvm.Cond.classLink "WasteHouse$PurityOdds" (16 : Nat) "WasteHouse$PurityOdds$Lot") ∈ lw_all := lw_g (lw_at lw_m6 48 rfl) rfl
theorem q1642 : (Jvm.Cond.classLink "WasteHouse$PurityOdds" (22 : Nat) "WasteHouse$PurityOdds$Ratio") ∈ lw_all := lw_g (lw_at lw_m6 50 rfl) rfl
theorem q1645 : (Jvm.Cond.methodLinkNest "WasteHouse$PurityOdds" (31 : Nat) ({ cls := "WasteHouse$PurityOdds$Ratio", name := "<init>", desc := "()V" } : Jvm.MethodName) "WasteHouse") ∈ lw_tbl := lw_at lw_m6 53 rfl
theorem q1650 : (Jvm.Cond.fieldLink "WasteHouse$PurityOdds" (90 : Nat) "WasteHouse$PurityOdds$Ratio" "above" "J") ∈ lw_all := lw_g (lw_at lw_m6 58 rfl) rfl
theorem q1652 : (Jvm.Cond.fieldLink "WasteHouse$PurityOdds" (93 : Nat) "WasteHouse$PurityOdds$Ratio" "below" "J") ∈ lw_all := lw_g (lw_at lw_m6 60 rfl) rfl
theorem q1659 : (Jvm.Cond.methodLinkNest "WasteHouse$PurityOdds" (56 : Nat) ({ cls := "WasteHouse$PurityOdds$Lot", name := "<init>", desc := "()V" } : Jvm.MethodName) "WasteHouse") ∈ lw_tbl := lw_at lw_m6 67 rfl
theorem q1666 : (Jvm.Cond.fieldLink "WasteHouse$PurityOdds" (117 : Nat) "WasteHouse$PurityOdds$Lot" "grams" "J") ∈ lw_all := lw_g (lw_at lw_m6 74 rfl) rfl
theorem q1668 : (Jvm.Cond.fieldLink "WasteHouse$PurityOdds" (136 : Nat) "WasteHouse$PurityOdds$Lot" "kinds" "[I") ∈ lw_all := lw_g (lw_at lw_m6 76 rfl) rfl
theorem q1670 : (Jvm.Cond.fieldLink "WasteHouse$PurityOdds" (139 : Nat) "WasteHouse$PurityOdds$Lot" "weights" "[I") ∈ lw_all := lw_g (lw_at lw_m6 78 rfl) rfl
theorem q1671 : (Jvm.Cond.fieldLink "WasteHouse$PurityOdds" (133 : Nat) "WasteHouse$PurityOdds$Lot" "pieces" "I") ∈ lw_all := lw_g (lw_at lw_m6 79 rfl) rfl
theorem q1673 : (Jvm.Cond.fieldLink "WasteHouse$PurityOdds" (142 : Nat) "WasteHouse$PurityOdds$Lot" "sums" "[J") ∈ lw_all := lw_g (lw_at lw_m6 81 rfl) rfl
theorem q1674 : (Jvm.Cond.fieldLink "WasteHouse$PurityOdds" (145 : Nat) "WasteHouse$PurityOdds$Lot" "sum" "J") ∈ lw_all := lw_g (lw_at lw_m6 82 rfl) rfl
theorem q1675 : (Jvm.Cond.fieldLink "WasteHouse$PurityOdds" (155 : Nat) "WasteHouse$PurityOdds$Lot" "isJudged" "Z") ∈ lw_all := lw_g (lw_at lw_m6 83 rfl) rfl
theorem q1677 : (Jvm.Cond.fieldLink "WasteHouse$PurityOdds" (158 : Nat) "WasteHouse$PurityOdds$Lot" "judged" "LWasteHouse$PurityOdds$Ratio;") ∈ lw_all := lw_g (lw_at lw_m6 85 rfl) rfl
theorem q1679 : (Jvm.Cond.fieldLink "WasteHouse$PurityOdds" (180 : Nat) "WasteHouse$PurityOdds$Lot" "hours" "[I") ∈ lw_all := lw_g (lw_at lw_m6 87 rfl) rfl
theorem q1681 : (Jvm.Cond.fieldLink "WasteHouse$PurityOdds" (183 : Nat) "WasteHouse$PurityOdds$Lot" "dried" "[I") ∈ lw_all := lw_g (lw_at lw_m6 89 rfl) rfl
theorem q1683 : (Jvm.Cond.fieldLink "WasteHouse$PurityOdds" (177 : Nat) "WasteHouse$PurityOdds$Lot" "rows" "I") ∈ lw_all := lw_g (lw_at lw_m6 91 rfl) rfl
theorem q1685 : (Jvm.Cond.fieldLink "WasteHouse$PurityOdds" (173 : Nat) "WasteHouse$PurityOdds$Lot" "places" "[B") ∈ lw_all := lw_g (lw_at lw_m6 93 rfl) rfl
theorem q1711 : (Jvm.Cond.fieldLink "WasteHouse$PurityOdds" (52 : Nat) "WasteHouse$PurityOdds" "seed" "J") ∈ lw_all := lw_g (lw_at lw_m6 119 rfl) rfl
theorem q1712 : (Jvm.Cond.fieldLink "WasteHouse$PurityOdds" (7 : Nat) "WasteHouse$PurityOdds" "sizes" "[I") ∈ lw_all := lw_g (lw_at lw_m6 120 rfl) rfl
theorem q1713 : (Jvm.Cond.fieldLink "WasteHouse$PurityOdds" (13 : Nat) "WasteHouse$PurityOdds" "mosts" "[I") ∈ lw_all := lw_g (lw_at lw_m6 121 rfl) rfl
theorem q1714 : (Jvm.Cond.fieldLink "WasteHouse$PurityOdds" (61 : Nat) "WasteHouse$PurityOdds" "plans" "I") ∈ lw_all := lw_g (lw_at lw_m6 122 rfl) rfl
theorem q1715 : (Jvm.Cond.fieldLink "WasteHouse$PurityOdds" (18 : Nat) "WasteHouse$PurityOdds" "lots" "[LWasteHouse$PurityOdds$Lot;") ∈ lw_all := lw_g (lw_at lw_m6 123 rfl) rfl
theorem q1717 : (Jvm.Cond.fieldLink "WasteHouse$PurityOdds" (112 : Nat) "WasteHouse$PurityOdds" "count" "I") ∈ lw_all := lw_g (lw_at lw_m6 125 rfl) rfl
theorem q1718 : (Jvm.Cond.fieldLink "WasteHouse$PurityOdds" (24 : Nat) "WasteHouse$PurityOdds" "steps" "[LWasteHouse$PurityOdds$Ratio;") ∈ lw_all := lw_g (lw_at lw_m6 126 rfl) rfl
theorem q1719 : (Jvm.Cond.fieldLink "WasteHouse$PurityOdds" (28 : Nat) "WasteHouse$PurityOdds" "cents" "[I") ∈ lw_all := lw_g (lw_at lw_m6 127 rfl) rfl
theorem q1720 : (Jvm.Cond.fieldLink "WasteHouse$PurityOdds" (152 : Nat) "WasteHouse$PurityOdds" "stepCount" "I") ∈ lw_all := lw_g (lw_at lw_m6 128 rfl) rfl
theorem q1721 : (Jvm.Cond.fieldLink "WasteHouse$PurityOdds" (32 : Nat) "WasteHouse$PurityOdds" "good" "LWasteHouse$PurityOdds$Ratio;") ∈ lw_all := lw_g (lw_at lw_m6 129 rfl) rfl
theorem q1722 : (Jvm.Cond.fieldLink "WasteHouse$PurityOdds" (36 : Nat) "WasteHouse$PurityOdds" "bad" "LWasteHouse$PurityOdds$Ratio;") ∈ lw_all := lw_g (lw_at lw_m6 130 rfl) rfl
theorem q1723 : (Jvm.Cond.fieldLink "WasteHouse$PurityOdds" (96 : Nat) "WasteHouse$PurityOdds" "hasShares" "Z") ∈ lw_all := lw_g (lw_at lw_m6 131 rfl) rfl
theorem q1724 : (Jvm.Cond.fieldLink "WasteHouse$PurityOdds" (39 : Nat) "WasteHouse$PurityOdds" "row" "[J") ∈ lw_all := lw_g (lw_at lw_m6 132 rfl) rfl
theorem q1725 : (Jvm.Cond.fieldLink "WasteHouse$PurityOdds" (43 : Nat) "WasteHouse$PurityOdds" "x" "LWasteHouse$PurityOdds$Ratio;") ∈ lw_all := lw_g (lw_at lw_m6 133 rfl) rfl
theorem q1726 : (Jvm.Cond.fieldLink "WasteHouse$PurityOdds" (46 : Nat) "WasteHouse$PurityOdds" "y" "LWasteHouse$PurityOdds$Ratio;") ∈ lw_all := lw_g (lw_at lw_m6 134 rfl) rfl
theorem q1727 : (Jvm.Cond.fieldLink "WasteHouse$PurityOdds" (49 : Nat) "WasteHouse$PurityOdds" "least" "LWasteHouse$PurityOdds$Ratio;") ∈ lw_all := lw_g (lw_at lw_m6 135 rfl) rfl
theorem q1728 : (Jvm.Cond.laysFinal "WasteHouse$PurityOdds" "WasteHouse$PurityOdds" "seed" "J") ∈ lw_all := lw_g (lw_at lw_m6 136 rfl) rfl
theorem q1729 : (Jvm.Cond.soleField "WasteHouse$PurityOdds" "seed") ∈ lw_all := lw_g (lw_at lw_m6 137 rfl) rfl
theorem q1730 : (Jvm.Cond.laysFinal "WasteHouse$PurityOdds" "WasteHouse$PurityOdds" "sizes" "[I") ∈ lw_all := lw_g (lw_at lw_m6 138 rfl) rfl
theorem q1731 : (Jvm.Cond.soleField "WasteHouse$PurityOdds" "sizes") ∈ lw_all := lw_g (lw_at lw_m6 139 rfl) rfl
theorem q1732 : (Jvm.Cond.laysFinal "WasteHouse$PurityOdds" "WasteHouse$PurityOdds" "mosts" "[I") ∈ lw_all := lw_g (lw_at lw_m6 140 rfl) rfl
theorem q1733 : (Jvm.Cond.soleField "WasteHouse$PurityOdds" "mosts") ∈ lw_all := lw_g (lw_at lw_m6 141 rfl) rfl
theorem q1734 : (Jvm.Cond.lays "WasteHouse$PurityOdds" "WasteHouse$PurityOdds" "plans" "I") ∈ lw_all := lw_g (lw_at lw_m6 142 rfl) rfl
theorem q1735 : (Jvm.Cond.soleField "WasteHouse$PurityOdds" "plans") ∈ lw_all := lw_g (lw_at lw_m6 143 rfl) rfl
theorem q1736 : (Jvm.Cond.laysFinal "WasteHouse$PurityOdds" "WasteHouse$PurityOdds" "lots" "[LWasteHouse$PurityOdds$Lot;") ∈ lw_all := lw_g (lw_at lw_m6 144 rfl) rfl
theorem q1737 : (Jvm.Cond.soleField "WasteHouse$PurityOdds" "lots") ∈ lw_all := lw_g (lw_at lw_m6 145 rfl) rfl
theorem q1738 : (Jvm.Cond.lays "WasteHouse$PurityOdds" "WasteHouse$PurityOdds" "count" "I") ∈ lw_all := lw_g (lw_at lw_m6 146 rfl) rfl
theorem q1739 : (Jvm.Cond.soleField "WasteHouse$PurityOdds" "count") ∈ lw_all := lw_g (lw_at lw_m6 147 rfl) rfl
theorem q1740 : (Jvm.Cond.laysFinal "WasteHouse$PurityOdds" "WasteHouse$PurityOdds" "steps" "[LWasteHouse$PurityOdds$Ratio;") ∈ lw_all := lw_g (lw_at lw_m6 148 rfl) rfl
theorem q1741 : (Jvm.Cond.soleField "WasteHouse$PurityOdds" "steps") ∈ lw_all := lw_g (lw_at lw_m6 149 rfl) rfl
theorem q1742 : (Jvm.Cond.laysFinal "WasteHouse$PurityOdds" "WasteHouse$PurityOdds" "cents" "[I") ∈ lw_all := lw_g (lw_at lw_m6 150 rfl) rfl
theorem q1743 : (Jvm.Cond.soleField "WasteHouse$PurityOdds" "cents") ∈ lw_all := lw_g (lw_at lw_m6 151 rfl) rfl
theorem q1744 : (Jvm.Cond.lays "WasteHouse$PurityOdds" "WasteHouse$PurityOdds" "stepCount" "I") ∈ lw_all := lw_g (lw_at lw_m6 152 rfl) rfl
theorem q1745 : (Jvm.Cond.soleField "WasteHouse$PurityOdds" "stepCount") ∈ lw_all := lw_g (lw_at lw_m6 153 rfl) rfl
theorem q1746 : (Jvm.Cond.laysFinal "WasteHouse$PurityOdds" "WasteHouse$PurityOdds" "good" "LWasteHouse$PurityOdds$Ratio;") ∈ lw_all := lw_g (lw_at lw_m6 154 rfl) rfl
theorem q1747 : (Jvm.Cond.soleField "WasteHouse$PurityOdds" "good") ∈ lw_all := lw_g (lw_at lw_m6 155 rfl) rfl
theorem q1748 : (Jvm.Cond.laysFinal "WasteHouse$PurityOdds" "WasteHouse$PurityOdds" "bad" "LWasteHouse$PurityOdds$Ratio;") ∈ lw_all := lw_g (lw_at lw_m6 156 rfl) rfl
theorem q1749 : (Jvm.Cond.soleField "WasteHouse$PurityOdds" "bad") ∈ lw_all := lw_g (lw_at lw_m6 157 rfl) rfl
theorem q1750 : (Jvm.Cond.lays "WasteHouse$PurityOdds" "WasteHouse$PurityOdds" "hasShares" "Z") ∈ lw_all := lw_g (lw_at lw_m6 158 rfl) rfl
theorem q1751 : (Jvm.Cond.soleField "WasteHouse$PurityOdds" "hasShares") ∈ lw_all := lw_g (lw_at lw_m6 159 rfl) rfl
theorem q1752 : (Jvm.Cond.laysFinal "WasteHouse$PurityOdds" "WasteHouse$PurityOdds" "row" "[J") ∈ lw_all := lw_g (lw_at lw_m6 160 rfl) rfl
theorem q1753 : (Jvm.Cond.soleField "WasteHouse$PurityOdds" "row") ∈ lw_all := lw_g (lw_at lw_m6 161 rfl) rfl
theorem q1754 : (Jvm.Cond.laysFinal "WasteHouse$PurityOdds" "WasteHouse$PurityOdds" "x" "LWasteHouse$PurityOdds$Ratio;") ∈ lw_all := lw_g (lw_at lw_m6 162 rfl) rfl
theorem q1755 : (Jvm.Cond.soleField "WasteHouse$PurityOdds" "x") ∈ lw_all := lw_g (lw_at lw_m6 163 rfl) rfl
theorem q1756 : (Jvm.Cond.laysFinal "WasteHouse$PurityOdds" "WasteHouse$PurityOdds" "y" "LWasteHouse$PurityOdds$Ratio;") ∈ lw_all := lw_g (lw_at lw_m6 164 rfl) rfl
theorem q1757 : (Jvm.Cond.soleField "WasteHouse$PurityOdds" "y") ∈ lw_all := lw_g (lw_at lw_m6 165 rfl) rfl
theorem q1758 : (Jvm.Cond.laysFinal "WasteHouse$PurityOdds" "WasteHouse$PurityOdds" "least" "LWasteHouse$PurityOdds$Ratio;") ∈ lw_all := lw_g (lw_at lw_m6 166 rfl) rfl
theorem q1759 : (Jvm.Cond.soleField "WasteHouse$PurityOdds" "least") ∈ lw_all := lw_g (lw_at lw_m6 167 rfl) rfl
theorem q1760 : (Jvm.Cond.superclass "WasteHouse$PurityOdds" "java/lang/Object") ∈ lw_all := lw_g (lw_at lw_m6 168 rfl) rfl
theorem q2002 : (Jvm.Cond.selects "WasteHouse$PurityOdds" ({ cls := "java/lang/Object", name := "getClass", desc := "()Ljava/lang/Class;" } : Jvm.MethodName) ({ cls := "java/lang/Object", name := "getClass", desc := "()Ljava/lang/Class;" } : Jvm.MethodName)) ∈ lw_all := lw_g (lw_at lw_m7 170 rfl) rfl
theorem q3112 : (Jvm.Cond.selects "WasteHouse$PurityOdds" ({ cls := "java/lang/Object", name := "equals", desc := "(Ljava/lang/Object;)Z" } : Jvm.MethodName) ({ cls := "java/lang/Object", name := "equals", desc := "(Ljava/lang/Object;)Z" } : Jvm.MethodName)) ∈ lw_all := lw_g (lw_at lw_m12 80 rfl) rfl
theorem q3630 : (Jvm.Cond.selects "WasteHouse$PurityOdds" ({ cls := "java/lang/Object", name := "hashCode", desc := "()I" } : Jvm.MethodName) ({ cls := "java/lang/Object", name := "hashCode", desc := "()I" } : Jvm.MethodName)) ∈ lw_all := lw_g (lw_at lw_m14 118 rfl) rfl
theorem q5399 : (Jvm.Cond.instanceMethod ({ cls := "WasteHouse$PurityOdds", name := "lot", desc := "(J)I" } : Jvm.MethodName)) ∈ lw_all := lw_g (lw_at lw_m21 207 rfl) rfl
theorem q5400 : (Jvm.Cond.selects "WasteHouse$PurityOdds" ({ cls := "WasteHouse$PurityOdds", name := "lot", desc := "(J)I" } : Jvm.MethodName) ({ cls := "WasteHouse$PurityOdds", name := "lot", desc := "(J)I" } : Jvm.MethodName)) ∈ lw_all := lw_g (lw_at lw_m21 208 rfl) rfl
theorem q5401 : (Jvm.Cond.code ({ cls := "WasteHouse$PurityOdds", name := "lot", desc := "(J)I" } : Jvm.MethodName) prog_32_method_12_code (4 : Nat) (Option.some Jvm.ClassFile.FieldType.int)) ∈ lw_all := lw_g (lw_at lw_m21 209 rfl) rfl
theorem q5402 : (Jvm.Cond.constantLong "WasteHouse$PurityOdds" (115 : Nat) (1000000000 : Int64)) ∈ lw_all := lw_g (lw_at lw_m21 210 rfl) rfl
theorem q5403 : (Jvm.Cond.methodLink "WasteHouse$PurityOdds" (57 : Nat) ({ cls := "WasteHouse$PurityOdds", name := "isIn", desc := "(JJJ)Z" } : Jvm.MethodName)) ∈ lw_all := lw_g (lw_at lw_m21 211 rfl) rfl
theorem q5404 : (Jvm.Cond.static ({ cls := "WasteHouse$PurityOdds", name := "isIn", desc := "(JJJ)Z" } : Jvm.MethodName)) ∈ lw_all := lw_g (lw_at lw_m21 212 rfl) rfl
theorem q5405 : (Jvm.Cond.code ({ cls := "WasteHouse$PurityOdds", name := "isIn", desc := "(JJJ)Z" } : Jvm.MethodName) prog_32_method_2_code (6 : Nat) (Option.some Jvm.ClassFile.FieldType.boolean)) ∈ lw_all := lw_g (lw_at lw_m21 213 rfl) rfl
theorem q5406 : (Jvm.Cond.constantLong "WasteHouse$PurityOdds" (120 : Nat) (1000003 : Int64)) ∈ lw_all := lw_g (lw_at lw_m21 214 rfl) rfl
theorem q5407 : (Jvm.Cond.methodLink "WasteHouse$PurityOdds" (122 : Nat) ({ cls := "WasteHouse$PurityOdds$Lot", name := "draw", desc := "(J)V" } : Jvm.MethodName)) ∈ lw_all := lw_g (lw_at lw_m21 215 rfl) rfl
theorem q5414 : (Jvm.Cond.instanceMethod ({ cls := "WasteHouse$PurityOdds", name := "piece", desc := "(IIJ)Z" } : Jvm.MethodName)) ∈ lw_all := lw_g (lw_at lw_m21 222 rfl) rfl
theorem q5415 : (Jvm.Cond.selects "WasteHouse$PurityOdds" ({ cls := "WasteHouse$PurityOdds", name := "piece", desc := "(IIJ)Z" } : Jvm.MethodName) ({ cls := "WasteHouse$PurityOdds", name := "piece", desc := "(IIJ)Z" } : Jvm.MethodName)) ∈ lw_all := lw_g (lw_at lw_m21 223 rfl) rfl
theorem q5416 : (Jvm.Cond.code ({ cls := "WasteHouse$PurityOdds", name := "piece", desc := "(IIJ)Z" } : Jvm.MethodName) prog_32_method_13_code (6 : Nat) (Option.some Jvm.ClassFile.FieldType.boolean)) ∈ lw_all := lw_g (lw_at lw_m21 224 rfl) rfl
theorem q5417 : (Jvm.Cond.methodLink "WasteHouse$PurityOdds" (126 : Nat) ({ cls := "WasteHouse$PurityOdds", name := "isLot", desc := "(I)Z" } : Jvm.MethodName)) ∈ lw_all := lw_g (lw_at lw_m21 225 rfl) rfl
theorem q5418 : (Jvm.Cond.privateMethod ({ cls := "WasteHouse$PurityOdds", name := "isLot", desc := "(I)Z" } : Jvm.MethodName)) ∈ lw_tbl := lw_at lw_m21 226 rfl
theorem q5419 : (Jvm.Cond.instanceMethod ({ cls := "WasteHouse$PurityOdds", name := "isLot", desc := "(I)Z" } : Jvm.MethodName)) ∈ lw_all := lw_g (lw_at lw_m21 227 rfl) rfl
theorem q5420 : (Jvm.Cond.code ({ cls := "WasteHouse$PurityOdds", name := "isLot", desc := "(I)Z" } : Jvm.MethodName) prog_32_method_11_code (2 : Nat) (Option.some Jvm.ClassFile.FieldType.boolean)) ∈ lw_all := lw_g (lw_at lw_m21 228 rfl) rfl
theorem q5421 : (Jvm.Cond.constantLong "WasteHouse$PurityOdds" (129 : Nat) (4 : Int64)) ∈ lw_all := lw_g (lw_at lw_m21 229 rfl) rfl
theorem q5422 : (Jvm.Cond.constantLong "WasteHouse$PurityOdds" (131 : Nat) (1000000 : Int64)) ∈ lw_all := lw_g (lw_at lw_m21 230 rfl) rfl
theorem q5428 : (Jvm.Cond.instanceMethod ({ cls := "WasteHouse$PurityOdds", name := "price", desc := "(I)J" } : Jvm.MethodName)) ∈ lw_all := lw_g (lw_at lw_m21 236 rfl) rfl
theorem q5429 : (Jvm.Cond.selects "WasteHouse$PurityOdds" ({ cls := "WasteHouse$PurityOdds", name := "price", desc := "(I)J" } : Jvm.MethodName) ({ cls := "WasteHouse$PurityOdds", name := "price", desc := "(I)J" } : Jvm.MethodName)) ∈ lw_all := lw_g (lw_at lw_m21 237 rfl) rfl
theorem q5430 : (Jvm.Cond.code ({ cls := "WasteHouse$PurityOdds", name := "price", desc := "(I)J" } : Jvm.MethodName) prog_32_method_20_code (3 : Nat) (Option.some Jvm.ClassFile.FieldType.long)) ∈ lw_all := lw_g (lw_at lw_m21 238 rfl) rfl
theorem q5431 : (Jvm.Cond.methodLink "WasteHouse$PurityOdds" (161 : Nat) ({ cls := "WasteHouse$PurityOdds", name := "isKnown", desc := "(I)Z" } : Jvm.MethodName)) ∈ lw_all := lw_g (lw_at lw_m21 239 rfl) rfl
theorem q5432 : (Jvm.Cond.privateMethod ({ cls := "WasteHouse$PurityOdds", name := "isKnown", desc := "(I)Z" } : Jvm.MethodName)) ∈ lw_tbl := lw_at lw_m22 0 rfl
theorem q5433 : (Jvm.Cond.instanceMethod ({ cls := "WasteHouse$PurityOdds", name := "isKnown", desc := "(I)Z" } : Jvm.MethodName)) ∈ lw_all := lw_g (lw_at lw_m22 1 rfl) rfl
theorem q5434 : (Jvm.Cond.code ({ cls := "WasteHouse$PurityOdds", name := "isKnown", desc := "(I)Z" } : Jvm.MethodName) prog_32_method_18_code (2 : Nat) (Option.some Jvm.ClassFile.FieldType.boolean)) ∈ lw_all := lw_g (lw_at lw_m22 2 rfl) rfl
theorem q5435 : (Jvm.Cond.constantLong "WasteHouse$PurityOdds" (80 : Nat) (-1 : Int64)) ∈ lw_all := lw_g (lw_at lw_m22 3 rfl) rfl
theorem q5436 : (Jvm.Cond.methodLink "WasteHouse$PurityOdds" (164 : Nat) ({ cls := "WasteHouse$PurityOdds", name := "purity", desc := "(LWasteHouse$PurityOdds$Lot;LWasteHouse$PurityOdds$Ratio;)V" } : Jvm.MethodName)) ∈ lw_all := lw_g (lw_at lw_m22 4 rfl) rfl
theorem q5437 : (Jvm.Cond.privateMethod ({ cls := "WasteHouse$PurityOdds", name := "purity", desc := "(LWasteHouse$PurityOdds$Lot;LWasteHouse$PurityOdds$Ratio;)V" } : Jvm.MethodName)) ∈ lw_tbl := lw_at lw_m22 5 rfl
theorem q5438 : (Jvm.Cond.instanceMethod ({ cls := "WasteHouse$PurityOdds", name := "purity", desc := "(LWasteHouse$PurityOdds$Lot;LWasteHouse$PurityOdds$Ratio;)V" } : Jvm.MethodName)) ∈ lw_all := lw_g (lw_at lw_m22 6 rfl) rfl
theorem q5439 : (Jvm.Cond.code ({ cls := "WasteHouse$PurityOdds", name := "purity", desc := "(LWasteHouse$PurityOdds$Lot;LWasteHouse$PurityOdds$Ratio;)V" } : Jvm.MethodName) prog_32_method_19_code (3 : Nat) (Option.none : Option Jvm.ClassFile.FieldType)) ∈ lw_all := lw_g (lw_at lw_m22 7 rfl) rfl
theorem q5440 : (Jvm.Cond.methodLink "WasteHouse$PurityOdds" (67 : Nat) ({ cls := "WasteHouse$PurityOdds$Ratio", name := "set", desc := "(JJ)V" } : Jvm.MethodName)) ∈ lw_all := lw_g (lw_at lw_m22 8 rfl) rfl
theorem q5444 : (Jvm.Cond.methodLink "WasteHouse$PurityOdds" (168 : Nat) ({ cls := "WasteHouse$PurityOdds", name := "stepOf", desc := "(LWasteHouse$PurityOdds$Ratio;)I" } : Jvm.MethodName)) ∈ lw_all := lw_g (lw_at lw_m22 12 rfl) rfl
theorem q5445 : (Jvm.Cond.privateMethod ({ cls := "WasteHouse$PurityOdds", name := "stepOf", desc := "(LWasteHouse$PurityOdds$Ratio;)I" } : Jvm.MethodName)) ∈ lw_tbl := lw_at lw_m22 13 rfl
theorem q5446 : (Jvm.Cond.instanceMethod ({ cls := "WasteHouse$PurityOdds", name := "stepOf", desc := "(LWasteHouse$PurityOdds$Ratio;)I" } : Jvm.MethodName)) ∈ lw_all := lw_g (lw_at lw_m22 14 rfl) rfl
theorem q5447 : (Jvm.Cond.code ({ cls := "WasteHouse$PurityOdds", name := "stepOf", desc := "(LWasteHouse$PurityOdds$Ratio;)I" } : Jvm.MethodName) prog_32_method_17_code (3 : Nat) (Option.some Jvm.ClassFile.FieldType.int)) ∈ lw_all := lw_g (lw_at lw_m22 15 rfl) rfl
theorem q5448 : (Jvm.Cond.methodLink "WasteHouse$PurityOdds" (104 : Nat) ({ cls := "WasteHouse$PurityOdds$Ratio", name := "compare", desc := "(LWasteHouse$PurityOdds$Ratio;)I" } : Jvm.MethodName)) ∈ lw_all := lw_g (lw_at lw_m22 16 rfl) rfl
theorem q5455 : (Jvm.Cond.constantLong "WasteHouse$PurityOdds" (148 : Nat) (1000 : Int64)) ∈ lw_all := lw_g (lw_at lw_m22 23 rfl) rfl
theorem q5482 : (Jvm.Cond.instanceMethod ({ cls := "WasteHouse$PurityOdds", name := "share", desc := "(III)J" } : Jvm.MethodName)) ∈ lw_all := lw_g (lw_at lw_m22 50 rfl) rfl
theorem q5483 : (Jvm.Cond.selects "WasteHouse$PurityOdds" ({ cls := "WasteHouse$PurityOdds", name := "share", desc := "(III)J" } : Jvm.MethodName) ({ cls := "WasteHouse$PurityOdds", name := "share", desc := "(III)J" } : Jvm.MethodName)) ∈ lw_all := lw_g (lw_at lw_m22 51 rfl) rfl
theorem q5484 : (Jvm.Cond.code ({ cls := "WasteHouse$PurityOdds", name := "share", desc := "(III)J" } : Jvm.MethodName) prog_32_method_14_code (4 : Nat) (Option.some Jvm.ClassFile.FieldType.long)) ∈ lw_all := lw_g (lw_at lw_m22 52 rfl) rfl
theorem q5485 : (Jvm.Cond.methodLink "WasteHouse$PurityOdds" (86 : Nat) ({ cls := "WasteHouse$PurityOdds$Ratio", name := "part", desc := "(I)J" } : Jvm.MethodName)) ∈ lw_all := lw_g (lw_at lw_m22 53 rfl) rfl
theorem q6268 : (Jvm.Cond.instanceMethod ({ cls := "WasteHouse$PurityOdds", name := "plan", desc := "(II)I" } : Jvm.MethodName)) ∈ lw_all := lw_g (lw_at lw_m25 116 rfl) rfl
theorem q6269 : (Jvm.Cond.selects "WasteHouse$PurityOdds" ({ cls := "WasteHouse$PurityOdds", name := "plan", desc := "(II)I" } : Jvm.MethodName) ({ cls := "WasteHouse$PurityOdds", name := "plan", desc := "(II)I" } : Jvm.MethodName)) ∈ lw_all := lw_g (lw_at lw_m25 117 rfl) rfl
theorem q6270 : (Jvm.Cond.code ({ cls := "WasteHouse$PurityOdds", name := "plan", desc := "(II)I" } : Jvm.MethodName) prog_32_method_4_code (3 : Nat) (Option.some Jvm.ClassFile.FieldType.int)) ∈ lw_all := lw_g (lw_at lw_m25 118 rfl) rfl
theorem q6271 : (Jvm.Cond.constantLong "WasteHouse$PurityOdds" (65 : Nat) (7 : Int64)) ∈ lw_all := lw_g (lw_at lw_m25 119 rfl) rfl
theorem q6273 : (Jvm.Cond.instanceMethod ({ cls := "WasteHouse$PurityOdds", name := "odds", desc := "(IJJI)J" } : Jvm.MethodName)) ∈ lw_all := lw_g (lw_at lw_m25 121 rfl) rfl
theorem q6274 : (Jvm.Cond.selects "WasteHouse$PurityOdds" ({ cls := "WasteHouse$PurityOdds", name := "odds", desc := "(IJJI)J" } : Jvm.MethodName) ({ cls := "WasteHouse$PurityOdds", name := "odds", desc := "(IJJI)J" } : Jvm.MethodName)) ∈ lw_all := lw_g (lw_at lw_m25 122 rfl) rfl
theorem q6275 : (Jvm.Cond.code ({ cls := "WasteHouse$PurityOdds", name := "odds", desc := "(IJJI)J" } : Jvm.MethodName) prog_32_method_7_code (7 : Nat) (Option.some Jvm.ClassFile.FieldType.long)) ∈ lw_all := lw_g (lw_at lw_m25 123 rfl) rfl
theorem q6276 : (Jvm.Cond.methodLink "WasteHouse$PurityOdds" (71 : Nat) ({ cls := "WasteHouse$PurityOdds", name := "isPlan", desc := "(I)Z" } : Jvm.MethodName)) ∈ lw_all := lw_g (lw_at lw_m25 124 rfl) rfl
theorem q6277 : (Jvm.Cond.privateMethod ({ cls := "WasteHouse$PurityOdds", name := "isPlan", desc := "(I)Z" } : Jvm.MethodName)) ∈ lw_tbl := lw_at lw_m25 125 rfl
theorem q6278 : (Jvm.Cond.instanceMethod ({ cls := "WasteHouse$PurityOdds", name := "isPlan", desc := "(I)Z" } : Jvm.MethodName)) ∈ lw_all := lw_g (lw_at lw_m25 126 rfl) rfl
theorem q6279 : (Jvm.Cond.code ({ cls := "WasteHouse$PurityOdds", name := "isPlan", desc := "(I)Z" } : Jvm.MethodName) prog_32_method_6_code (2 : Nat) (Option.some Jvm.ClassFile.FieldType.boolean)) ∈ lw_all := lw_g (lw_at lw_m25 127 rfl) rfl
theorem q6280 : (Jvm.Cond.constantLong "WasteHouse$PurityOdds" (75 : Nat) (20 : Int64)) ∈ lw_all := lw_g (lw_at lw_m25 128 rfl) rfl
theorem q6281 : (Jvm.Cond.methodLink "WasteHouse$PurityOdds" (77 : Nat) ({ cls := "WasteHouse$PurityOdds", name := "isShare", desc := "(JJJ)Z" } : Jvm.MethodName)) ∈ lw_all := lw_g (lw_at lw_m25 129 rfl) rfl
theorem q6282 : (Jvm.Cond.static ({ cls := "WasteHouse$PurityOdds", name := "isShare", desc := "(JJJ)Z" } : Jvm.MethodName)) ∈ lw_all := lw_g (lw_at lw_m25 130 rfl) rfl
theorem q6283 : (Jvm.Cond.code ({ cls := "WasteHouse$PurityOdds", name := "isShare", desc := "(JJJ)Z" } : Jvm.MethodName) prog_32_method_3_code (6 : Nat) (Option.some Jvm.ClassFile.FieldType.boolean)) ∈ lw_all := lw_g (lw_at lw_m25 131 rfl) rfl
theorem q6284 : (Jvm.Cond.methodLink "WasteHouse$PurityOdds" (82 : Nat) ({ cls := "WasteHouse$PurityOdds", name := "pass", desc := "(IIJJLWasteHouse$PurityOdds$Ratio;)V" } : Jvm.MethodName)) ∈ lw_all := lw_g (lw_at lw_m25 132 rfl) rfl
theorem q6285 : (Jvm.Cond.privateMethod ({ cls := "WasteHouse$PurityOdds", name := "pass", desc := "(IIJJLWasteHouse$PurityOdds$Ratio;)V" } : Jvm.MethodName)) ∈ lw_tbl := lw_at lw_m25 133 rfl
theorem q6286 : (Jvm.Cond.instanceMethod ({ cls := "WasteHouse$PurityOdds", name := "pass", desc := "(IIJJLWasteHouse$PurityOdds$Ratio;)V" } : Jvm.MethodName)) ∈ lw_all := lw_g (lw_at lw_m25 134 rfl) rfl
theorem q6287 : (Jvm.Cond.code ({ cls := "WasteHouse$PurityOdds", name := "pass", desc := "(IIJJLWasteHouse$PurityOdds$Ratio;)V" } : Jvm.MethodName) prog_32_method_5_code (12 : Nat) (Option.none : Option Jvm.ClassFile.FieldType)) ∈ lw_all := lw_g (lw_at lw_m25 135 rfl) rfl
theorem q6289 : (Jvm.Cond.instanceMethod ({ cls := "WasteHouse$PurityOdds", name := "best", desc := "(IJJJJ)I" } : Jvm.MethodName)) ∈ lw_all := lw_g (lw_at lw_m25 137 rfl) rfl
theorem q6290 : (Jvm.Cond.selects "WasteHouse$PurityOdds" ({ cls := "WasteHouse$PurityOdds", name := "best", desc := "(IJJJJ)I" } : Jvm.MethodName) ({ cls := "WasteHouse$PurityOdds", name := "best", desc := "(IJJJJ)I" } : Jvm.MethodName)) ∈ lw_all := lw_g (lw_at lw_m25 138 rfl) rfl
theorem q6291 : (Jvm.Cond.code ({ cls := "WasteHouse$PurityOdds", name := "best", desc := "(IJJJJ)I" } : Jvm.MethodName) prog_32_method_9_code (15 : Nat) (Option.some Jvm.ClassFile.FieldType.int)) ∈ lw_all := lw_g (lw_at lw_m25 139 rfl) rfl
theorem q6292 : (Jvm.Cond.methodLink "WasteHouse$PurityOdds" (100 : Nat) ({ cls := "WasteHouse$PurityOdds", name := "riskOf", desc := "(IIILWasteHouse$PurityOdds$Ratio;)V" } : Jvm.MethodName)) ∈ lw_all := lw_g (lw_at lw_m25 140 rfl) rfl
theorem q6293 : (Jvm.Cond.privateMethod ({ cls := "WasteHouse$PurityOdds", name := "riskOf", desc := "(IIILWasteHouse$PurityOdds$Ratio;)V" } : Jvm.MethodName)) ∈ lw_tbl := lw_at lw_m25 141 rfl
theorem q6294 : (Jvm.Cond.instanceMethod ({ cls := "WasteHouse$PurityOdds", name := "riskOf", desc := "(IIILWasteHouse$PurityOdds$Ratio;)V" } : Jvm.MethodName)) ∈ lw_all := lw_g (lw_at lw_m25 142 rfl) rfl
theorem q6295 : (Jvm.Cond.code ({ cls := "WasteHouse$PurityOdds", name := "riskOf", desc := "(IIILWasteHouse$PurityOdds$Ratio;)V" } : Jvm.MethodName) prog_32_method_8_code (6 : Nat) (Option.none : Option Jvm.ClassFile.FieldType)) ∈ lw_all := lw_g (lw_at lw_m25 143 rfl) rfl
theorem q6296 : (Jvm.Cond.methodLink "WasteHouse$PurityOdds" (108 : Nat) ({ cls := "WasteHouse$PurityOdds", name := "plan", desc := "(II)I" } : Jvm.MethodName)) ∈ lw_all := lw_g (lw_at lw_m25 144 rfl) rfl
theorem q6298 : (Jvm.Cond.instanceMethod ({ cls := "WasteHouse$PurityOdds", name := "risk", desc := "(III)J" } : Jvm.MethodName)) ∈ lw_all := lw_g (lw_at lw_m25 146 rfl) rfl
theorem q6299 : (Jvm.Cond.selects "WasteHouse$PurityOdds" ({ cls := "WasteHouse$PurityOdds", name := "risk", desc := "(III)J" } : Jvm.MethodName) ({ cls := "WasteHouse$PurityOdds", name := "risk", desc := "(III)J" } : Jvm.MethodName)) ∈ lw_all := lw_g (lw_at lw_m25 147 rfl) rfl
theorem q6300 : (Jvm.Cond.code ({ cls := "WasteHouse$PurityOdds", name := "risk", desc := "(III)J" } : Jvm.MethodName) prog_32_method_10_code (4 : Nat) (Option.some Jvm.ClassFile.FieldType.long)) ∈ lw_all := lw_g (lw_at lw_m25 148 rfl) rfl
theorem q6307 : (Jvm.Cond.instanceMethod ({ cls := "WasteHouse$PurityOdds", name := "repeats", desc := "(I)I" } : Jvm.MethodName)) ∈ lw_all := lw_g (lw_at lw_m25 155 rfl) rfl
theorem q6308 : (Jvm.Cond.selects "WasteHouse$PurityOdds" ({ cls := "WasteHouse$PurityOdds", name := "repeats", desc := "(I)I" } : Jvm.MethodName) ({ cls := "WasteHouse$PurityOdds", name := "repeats", desc := "(I)I" } : Jvm.MethodName)) ∈ lw_all := lw_g (lw_at lw_m25 156 rfl) rfl
theorem q6309 : (Jvm.Cond.code ({ cls := "WasteHouse$PurityOdds", name := "repeats", desc := "(I)I" } : Jvm.MethodName) prog_32_method_15_code (6 : Nat) (Option.some Jvm.ClassFile.FieldType.int)) ∈ lw_all := lw_g (lw_at lw_m25 157 rfl) rfl
theorem q6311 : (Jvm.Cond.instanceMethod ({ cls := "WasteHouse$PurityOdds", name := "step", desc := "(JJJ)Z" } : Jvm.MethodName)) ∈ lw_all := lw_g (lw_at lw_m25 159 rfl) rfl
theorem q6312 : (Jvm.Cond.selects "WasteHouse$PurityOdds" ({ cls := "WasteHouse$PurityOdds", name := "step", desc := "(JJJ)Z" } : Jvm.MethodName) ({ cls := "WasteHouse$PurityOdds", name := "step", desc := "(JJJ)Z" } : Jvm.MethodName)) ∈ lw_all := lw_g (lw_at lw_m25 160 rfl) rfl
theorem q6313 : (Jvm.Cond.code ({ cls := "WasteHouse$PurityOdds", name := "step", desc := "(JJJ)Z" } : Jvm.MethodName) prog_32_method_16_code (7 : Nat) (Option.some Jvm.ClassFile.FieldType.boolean)) ∈ lw_all := lw_g (lw_at lw_m25 161 rfl) rfl
theorem q6314 : (Jvm.Cond.constantLong "WasteHouse$PurityOdds" (150 : Nat) (100000 : Int64)) ∈ lw_all := lw_g (lw_at lw_m25 162 rfl) rfl
theorem q6317 : (Jvm.Cond.instanceMethod ({ cls := "WasteHouse$PurityOdds", name := "third", desc := "(IJJ)I" } : Jvm.MethodName)) ∈ lw_all := lw_g (lw_at lw_m25 165 rfl) rfl
theorem q6318 : (Jvm.Cond.selects "WasteHouse$PurityOdds" ({ cls := "WasteHouse$PurityOdds", name := "third", desc := "(IJJ)I" } : Jvm.MethodName) ({ cls := "WasteHouse$PurityOdds", name := "third", desc := "(IJJ)I" } : Jvm.MethodName)) ∈ lw_all := lw_g (lw_at lw_m25 166 rfl) rfl
theorem q6319 : (Jvm.Cond.code ({ cls := "WasteHouse$PurityOdds", name := "third", desc := "(IJJ)I" } : Jvm.MethodName) prog_32_method_21_code (8 : Nat) (Option.some Jvm.ClassFile.FieldType.int)) ∈ lw_all := lw_g (lw_at lw_m25 167 rfl) rfl
theorem q6321 : (Jvm.Cond.instanceMethod ({ cls := "WasteHouse$PurityOdds", name := "place", desc := "(II)I" } : Jvm.MethodName)) ∈ lw_all := lw_g (lw_at lw_m25 169 rfl) rfl
theorem q6322 : (Jvm.Cond.selects "WasteHouse$PurityOdds" ({ cls := "WasteHouse$PurityOdds", name := "place", desc := "(II)I" } : Jvm.MethodName) ({ cls := "WasteHouse$PurityOdds", name := "place", desc := "(II)I" } : Jvm.MethodName)) ∈ lw_all := lw_g (lw_at lw_m25 170 rfl) rfl
theorem q6323 : (Jvm.Cond.code ({ cls := "WasteHouse$PurityOdds", name := "place", desc := "(II)I" } : Jvm.MethodName) prog_32_method_23_code (3 : Nat) (Option.some Jvm.ClassFile.FieldType.int)) ∈ lw_all := lw_g (lw_at lw_m25 171 rfl) rfl
theorem q6324 : (Jvm.Cond.constantLong "WasteHouse$PurityOdds" (171 : Nat) (99 : Int64)) ∈ lw_all := lw_g (lw_at lw_m25 172 rfl) rfl
theorem q6326 : (Jvm.Cond.instanceMethod ({ cls := "WasteHouse$PurityOdds", name := "dry", desc := "(IJJ)Z" } : Jvm.MethodName)) ∈ lw_all := lw_g (lw_at lw_m25 174 rfl) rfl
theorem q6327 : (Jvm.Cond.selects "WasteHouse$PurityOdds" ({ cls := "WasteHouse$PurityOdds", name := "dry", desc := "(IJJ)Z" } : Jvm.MethodName) ({ cls := "WasteHouse$PurityOdds", name := "dry", desc := "(IJJ)Z" } : Jvm.MethodName)) ∈ lw_all := lw_g (lw_at lw_m25 175 rfl) rfl
theorem q6328 : (Jvm.Cond.code ({ cls := "WasteHouse$PurityOdds", name := "dry", desc := "(IJJ)Z" } : Jvm.MethodName) prog_32_method_24_code (7 : Nat) (Option.some Jvm.ClassFile.FieldType.boolean)) ∈ lw_all := lw_g (lw_at lw_m25 176 rfl) rfl
theorem q6330 : (Jvm.Cond.instanceMethod ({ cls := "WasteHouse$PurityOdds", name := "moisture", desc := "(II)J" } : Jvm.MethodName)) ∈ lw_all := lw_g (lw_at lw_m25 178 rfl) rfl
theorem q6331 : (Jvm.Cond.selects "WasteHouse$PurityOdds" ({ cls := "WasteHouse$PurityOdds", name := "moisture", desc := "(II)J" } : Jvm.MethodName) ({ cls := "WasteHouse$PurityOdds", name := "moisture", desc := "(II)J" } : Jvm.MethodName)) ∈ lw_all := lw_g (lw_at lw_m25 179 rfl) rfl
theorem q6332 : (Jvm.Cond.code ({ cls := "WasteHouse$PurityOdds", name := "moisture", desc := "(II)J" } : Jvm.MethodName) prog_32_method_25_code (4 : Nat) (Option.some Jvm.ClassFile.FieldType.long)) ∈ lw_all := lw_g (lw_at lw_m25 180 rfl) rfl
theorem q6333 : (Jvm.Cond.methodLink "WasteHouse$PurityOdds" (186 : Nat) ({ cls := "WasteHouse$PurityOdds$Lot", name := "isDry", desc := "()Z" } : Jvm.MethodName)) ∈ lw_all := lw_g (lw_at lw_m25 181 rfl) rfl
theorem q6338 : (Jvm.Cond.instanceMethod ({ cls := "WasteHouse$PurityOdds", name := "trend", desc := "(I)I" } : Jvm.MethodName)) ∈ lw_all := lw_g (lw_at lw_m25 186 rfl) rfl
theorem q6339 : (Jvm.Cond.selects "WasteHouse$PurityOdds" ({ cls := "WasteHouse$PurityOdds", name := "trend", desc := "(I)I" } : Jvm.MethodName) ({ cls := "WasteHouse$PurityOdds", name := "trend", desc := "(I)I" } : Jvm.MethodName)) ∈ lw_all := lw_g (lw_at lw_m25 187 rfl) rfl
theorem q6340 : (Jvm.Cond.code ({ cls := "WasteHouse$PurityOdds", name := "trend", desc := "(I)I" } : Jvm.MethodName) prog_32_method_22_code (3 : Nat) (Option.some Jvm.ClassFile.FieldType.int)) ∈ lw_all := lw_g (lw_at lw_m25 188 rfl) rfl
theorem q9654 : (Jvm.Cond.castable "WasteHouse$PurityOdds" "java/lang/Object") ∈ lw_tbl := lw_at lw_m39 142 rfl
theorem in_X31 : ∀ w ∈ wsX310, w ∈ lw_all := lw_in wsX310 [1728, 1730, 1732, 1734, 1736, 1738, 1740, 1742, 1744, 1746, 1748, 1750, 1752, 1754, 1756, 1758] (by decide +kernel) (by decide +kernel)
