/-! WasteHouse$ShareSolve -/
set_option maxRecDepth 100000
def RX7 : String := "WasteHouse$ShareSolve"
def TX7 : u_T := fun k => match k with
  | 0 => ("WasteHouse$ShareSolve", "kinds", "I", true)
  | 1 => ("WasteHouse$ShareSolve", "machines", "I", false)
  | 2 => ("WasteHouse$ShareSolve", "ports", "I", false)
  | 3 => ("WasteHouse$ShareSolve", "outs", "[I", true)
  | 4 => ("WasteHouse$ShareSolve", "joins", "[I", true)
  | 5 => ("WasteHouse$ShareSolve", "shares", "[I", true)
  | 6 => ("WasteHouse$ShareSolve", "becomes", "[I", true)
  | 7 => ("WasteHouse$ShareSolve", "crushed", "[I", true)
  | 8 => ("WasteHouse$ShareSolve", "feeds", "[I", true)
  | 9 => ("WasteHouse$ShareSolve", "hasSpan", "[Z", true)
  | 10 => ("WasteHouse$ShareSolve", "lows", "[I", true)
  | 11 => ("WasteHouse$ShareSolve", "highs", "[I", true)
  | 12 => ("WasteHouse$ShareSolve", "square", "LWasteHouse$ShareSolve$Square;", true)
  | 13 => ("WasteHouse$ShareSolve", "amounts", "[LWasteHouse$ShareSolve$Amount;", true)
  | 14 => ("WasteHouse$ShareSolve", "amount", "LWasteHouse$ShareSolve$Amount;", true)
  | 15 => ("WasteHouse$ShareSolve", "one", "LWasteHouse$ShareSolve$Whole;", true)
  | 16 => ("WasteHouse$ShareSolve", "two", "LWasteHouse$ShareSolve$Whole;", true)
  | 17 => ("WasteHouse$ShareSolve", "sum", "LWasteHouse$ShareSolve$Whole;", true)
  | 18 => ("WasteHouse$ShareSolve", "isKnown", "Z", false)
  | 19 => ("WasteHouse$ShareSolve", "isKept", "Z", false)
  | 20 => ("WasteHouse$ShareSolve", "knownMachines", "I", false)
  | 21 => ("WasteHouse$ShareSolve", "knownPorts", "I", false)
  | 22 => ("WasteHouse$ShareSolve", "factor", "LWasteHouse$ShareSolve$Whole;", true)
  | 23 => ("WasteHouse$ShareSolve", "scaled", "LWasteHouse$ShareSolve$Whole;", true)
  | 24 => ("WasteHouse$ShareSolve", "first", "LWasteHouse$ShareSolve$Amount;", true)
  | 25 => ("WasteHouse$ShareSolve", "last", "LWasteHouse$ShareSolve$Amount;", true)
  | _ => ("WasteHouse$ShareSolve", "reckoner", "LWasteHouse$ShareSolve$Reckoner;", true)
def tyX7 : Nat → FieldType := fun k => match k with
  | 0 => .int
  | 1 => .int
  | 2 => .int
  | 3 => .array .int
  | 4 => .array .int
  | 5 => .array .int
  | 6 => .array .int
  | 7 => .array .int
  | 8 => .array .int
  | 9 => .array .boolean
  | 10 => .array .int
  | 11 => .array .int
  | 12 => .object "WasteHouse$ShareSolve$Square"
  | 13 => .array (.object "WasteHouse$ShareSolve$Amount")
  | 14 => .object "WasteHouse$ShareSolve$Amount"
  | 15 => .object "WasteHouse$ShareSolve$Whole"
  | 16 => .object "WasteHouse$ShareSolve$Whole"
  | 17 => .object "WasteHouse$ShareSolve$Whole"
  | 18 => .boolean
  | 19 => .boolean
  | 20 => .int
  | 21 => .int
  | 22 => .object "WasteHouse$ShareSolve$Whole"
  | 23 => .object "WasteHouse$ShareSolve$Whole"
  | 24 => .object "WasteHouse$ShareSolve$Amount"
  | 25 => .object "WasteHouse$ShareSolve$Amount"
  | _ => .object "WasteHouse$ShareSolve$Reckoner"
abbrev wsX70 : List Cond := u_ws RX7 TX7 27
set_option maxRecDepth 100000 in
theorem nmX7 : ∀ a, a < 27 → ∀ b, b < 27 → a ≠ b → (TX7 a).2.1 ≠ (TX7 b).2.1 := by decide +kernel
set_option maxRecDepth 100000 in
theorem tyX7_ok : ∀ k, k < 27 → parseFieldDescriptor (TX7 k).2.2.1 = some (tyX7 k) := by decide +kernel
abbrev cX7_init : ByteArray := prog_42_method_1_code
def yX7_init : MethodName := ⟨RX7, "<init>", "(I)V"⟩
def dkwX7_init_11 : List UInt8 := [167, 255, 240, 177]
abbrev dktX7_init_11 : List UInt8 := dkwX7_init_11 ++ []
def dkwX7_init_10 : List UInt8 := [132, 2, 1, 167, 255, 234, 3, 61, 28, 16, 9, 162, 0, 16, 42, 180, 0, 13, 28, 2, 79, 132, 2, 1]
abbrev dktX7_init_10 : List UInt8 := dkwX7_init_10 ++ dktX7_init_11
def dkwX7_init_9 : List UInt8 := [181, 0, 88, 3, 61, 28, 16, 18, 162, 0, 22, 42, 180, 0, 47, 28, 187, 0, 45, 89, 183, 0, 51, 83]
abbrev dktX7_init_9 : List UInt8 := dkwX7_init_9 ++ dktX7_init_10
def dkwX7_init_8 : List UInt8 := [183, 0, 83, 181, 0, 84, 42, 27, 4, 161, 0, 12, 27, 6, 163, 0, 7, 27, 167, 0, 4, 4]
abbrev dktX7_init_8 : List UInt8 := dkwX7_init_8 ++ dktX7_init_9
def dkwX7_init_7 : List UInt8 := [183, 0, 51, 181, 0, 75, 42, 187, 0, 45, 89, 183, 0, 51, 181, 0, 78, 42, 187, 0, 81, 89]
abbrev dktX7_init_7 : List UInt8 := dkwX7_init_7 ++ dktX7_init_8
def dkwX7_init_6 : List UInt8 := [183, 0, 58, 181, 0, 69, 42, 187, 0, 56, 89, 183, 0, 58, 181, 0, 72, 42, 187, 0, 45, 89]
abbrev dktX7_init_6 : List UInt8 := dkwX7_init_6 ++ dktX7_init_7
def dkwX7_init_5 : List UInt8 := [183, 0, 58, 181, 0, 63, 42, 187, 0, 56, 89, 183, 0, 58, 181, 0, 66, 42, 187, 0, 56, 89]
abbrev dktX7_init_5 : List UInt8 := dkwX7_init_5 ++ dktX7_init_6
def dkwX7_init_4 : List UInt8 := [89, 183, 0, 51, 181, 0, 52, 42, 187, 0, 56, 89, 183, 0, 58, 181, 0, 59, 42, 187, 0, 56, 89]
abbrev dktX7_init_4 : List UInt8 := dkwX7_init_4 ++ dktX7_init_5
def dkwX7_init_3 : List UInt8 := [42, 187, 0, 38, 89, 183, 0, 40, 181, 0, 41, 42, 16, 18, 189, 0, 45, 181, 0, 47, 42, 187, 0, 45]
abbrev dktX7_init_3 : List UInt8 := dkwX7_init_3 ++ dktX7_init_4
def dkwX7_init_2 : List UInt8 := [181, 0, 25, 42, 6, 188, 4, 181, 0, 28, 42, 6, 188, 10, 181, 0, 32, 42, 6, 188, 10, 181, 0, 35]
abbrev dktX7_init_2 : List UInt8 := dkwX7_init_2 ++ dktX7_init_3
def dkwX7_init_1 : List UInt8 := [181, 0, 16, 42, 16, 9, 188, 10, 181, 0, 19, 42, 16, 9, 188, 10, 181, 0, 22, 42, 16, 9, 188, 10]
abbrev dktX7_init_1 : List UInt8 := dkwX7_init_1 ++ dktX7_init_2
def dkwX7_init_0 : List UInt8 := [42, 183, 0, 1, 42, 6, 188, 10, 181, 0, 7, 42, 16, 9, 188, 10, 181, 0, 13, 42, 16, 27, 188, 10]
abbrev dktX7_init_0 : List UInt8 := dkwX7_init_0 ++ dktX7_init_1
theorem dksX7_init_0 : cX7_init.data.toList.drop 0 = dktX7_init_0 := by decide +kernel
theorem dksX7_init_1 : cX7_init.data.toList.drop 24 = dktX7_init_1 := dk_seg dksX7_init_0 24 rfl rfl
theorem dksX7_init_2 : cX7_init.data.toList.drop 48 = dktX7_init_2 := dk_seg dksX7_init_1 24 rfl rfl
theorem dksX7_init_3 : cX7_init.data.toList.drop 72 = dktX7_init_3 := dk_seg dksX7_init_2 24 rfl rfl
theorem dksX7_init_4 : cX7_init.data.toList.drop 96 = dktX7_init_4 := dk_seg dksX7_init_3 24 rfl rfl
theorem dksX7_init_5 : cX7_init.data.toList.drop 119 = dktX7_init_5 := dk_seg dksX7_init_4 23 rfl rfl
theorem dksX7_init_6 : cX7_init.data.toList.drop 141 = dktX7_init_6 := dk_seg dksX7_init_5 22 rfl rfl
theorem dksX7_init_7 : cX7_init.data.toList.drop 163 = dktX7_init_7 := dk_seg dksX7_init_6 22 rfl rfl
theorem dksX7_init_8 : cX7_init.data.toList.drop 185 = dktX7_init_8 := dk_seg dksX7_init_7 22 rfl rfl
theorem dksX7_init_9 : cX7_init.data.toList.drop 207 = dktX7_init_9 := dk_seg dksX7_init_8 22 rfl rfl
theorem dksX7_init_10 : cX7_init.data.toList.drop 231 = dktX7_init_10 := dk_seg dksX7_init_9 24 rfl rfl
theorem dksX7_init_11 : cX7_init.data.toList.drop 255 = dktX7_init_11 := dk_seg dksX7_init_10 24 rfl rfl
theorem dX7_init_0 : decode cX7_init 0 = .ok (.aload_n 0, 1) := dk_42 (dk_at dksX7_init_0 0 rfl rfl)
theorem dX7_init_1 : decode cX7_init 1 = .ok (.invokespecial 1, 3) := dk_183 0 1 (dk_at dksX7_init_0 1 rfl rfl)
theorem dX7_init_4 : decode cX7_init 4 = .ok (.aload_n 0, 1) := dk_42 (dk_at dksX7_init_0 4 rfl rfl)
theorem dX7_init_5 : decode cX7_init 5 = .ok (.iconst 3, 1) := dk_6 (dk_at dksX7_init_0 5 rfl rfl)
theorem dX7_init_6 : decode cX7_init 6 = .ok (.newarray .int, 2) := dk_188_10 (dk_at dksX7_init_0 6 rfl rfl)
theorem dX7_init_8 : decode cX7_init 8 = .ok (.putfield 7, 3) := dk_181 0 7 (dk_at dksX7_init_0 8 rfl rfl)
theorem dX7_init_11 : decode cX7_init 11 = .ok (.aload_n 0, 1) := dk_42 (dk_at dksX7_init_0 11 rfl rfl)
theorem dX7_init_12 : decode cX7_init 12 = .ok (.bipush 9, 2) := dk_16 9 (dk_at dksX7_init_0 12 rfl rfl)
theorem dX7_init_14 : decode cX7_init 14 = .ok (.newarray .int, 2) := dk_188_10 (dk_at dksX7_init_0 14 rfl rfl)
theorem dX7_init_16 : decode cX7_init 16 = .ok (.putfield 13, 3) := dk_181 0 13 (dk_at dksX7_init_0 16 rfl rfl)
theorem dX7_init_19 : decode cX7_init 19 = .ok (.aload_n 0, 1) := dk_42 (dk_at dksX7_init_0 19 rfl rfl)
theorem dX7_init_20 : decode cX7_init 20 = .ok (.bipush 27, 2) := dk_16 27 (dk_at dksX7_init_0 20 rfl rfl)
theorem dX7_init_22 : decode cX7_init 22 = .ok (.newarray .int, 2) := dk_188_10 (dk_at dksX7_init_0 22 rfl rfl)
theorem dX7_init_24 : decode cX7_init 24 = .ok (.putfield 16, 3) := dk_181 0 16 (dk_at dksX7_init_1 0 rfl rfl)
theorem dX7_init_27 : decode cX7_init 27 = .ok (.aload_n 0, 1) := dk_42 (dk_at dksX7_init_1 3 rfl rfl)
theorem dX7_init_28 : decode cX7_init 28 = .ok (.bipush 9, 2) := dk_16 9 (dk_at dksX7_init_1 4 rfl rfl)
theorem dX7_init_30 : decode cX7_init 30 = .ok (.newarray .int, 2) := dk_188_10 (dk_at dksX7_init_1 6 rfl rfl)
theorem dX7_init_32 : decode cX7_init 32 = .ok (.putfield 19, 3) := dk_181 0 19 (dk_at dksX7_init_1 8 rfl rfl)
theorem dX7_init_35 : decode cX7_init 35 = .ok (.aload_n 0, 1) := dk_42 (dk_at dksX7_init_1 11 rfl rfl)
theorem dX7_init_36 : decode cX7_init 36 = .ok (.bipush 9, 2) := dk_16 9 (dk_at dksX7_init_1 12 rfl rfl)
theorem dX7_init_38 : decode cX7_init 38 = .ok (.newarray .int, 2) := dk_188_10 (dk_at dksX7_init_1 14 rfl rfl)
theorem dX7_init_40 : decode cX7_init 40 = .ok (.putfield 22, 3) := dk_181 0 22 (dk_at dksX7_init_1 16 rfl rfl)
theorem dX7_init_43 : decode cX7_init 43 = .ok (.aload_n 0, 1) := dk_42 (dk_at dksX7_init_1 19 rfl rfl)
theorem dX7_init_44 : decode cX7_init 44 = .ok (.bipush 9, 2) := dk_16 9 (dk_at dksX7_init_1 20 rfl rfl)
theorem dX7_init_46 : decode cX7_init 46 = .ok (.newarray .int, 2) := dk_188_10 (dk_at dksX7_init_1 22 rfl rfl)
theorem dX7_init_48 : decode cX7_init 48 = .ok (.putfield 25, 3) := dk_181 0 25 (dk_at dksX7_init_2 0 rfl rfl)
theorem dX7_init_51 : decode cX7_init 51 = .ok (.aload_n 0, 1) := dk_42 (dk_at dksX7_init_2 3 rfl rfl)
theorem dX7_init_52 : decode cX7_init 52 = .ok (.iconst 3, 1) := dk_6 (dk_at dksX7_init_2 4 rfl rfl)
theorem dX7_init_53 : decode cX7_init 53 = .ok (.newarray .boolean, 2) := dk_188_4 (dk_at dksX7_init_2 5 rfl rfl)
theorem dX7_init_55 : decode cX7_init 55 = .ok (.putfield 28, 3) := dk_181 0 28 (dk_at dksX7_init_2 7 rfl rfl)
theorem dX7_init_58 : decode cX7_init 58 = .ok (.aload_n 0, 1) := dk_42 (dk_at dksX7_init_2 10 rfl rfl)
theorem dX7_init_59 : decode cX7_init 59 = .ok (.iconst 3, 1) := dk_6 (dk_at dksX7_init_2 11 rfl rfl)
theorem dX7_init_60 : decode cX7_init 60 = .ok (.newarray .int, 2) := dk_188_10 (dk_at dksX7_init_2 12 rfl rfl)
theorem dX7_init_62 : decode cX7_init 62 = .ok (.putfield 32, 3) := dk_181 0 32 (dk_at dksX7_init_2 14 rfl rfl)
theorem dX7_init_65 : decode cX7_init 65 = .ok (.aload_n 0, 1) := dk_42 (dk_at dksX7_init_2 17 rfl rfl)
theorem dX7_init_66 : decode cX7_init 66 = .ok (.iconst 3, 1) := dk_6 (dk_at dksX7_init_2 18 rfl rfl)
theorem dX7_init_67 : decode cX7_init 67 = .ok (.newarray .int, 2) := dk_188_10 (dk_at dksX7_init_2 19 rfl rfl)
theorem dX7_init_69 : decode cX7_init 69 = .ok (.putfield 35, 3) := dk_181 0 35 (dk_at dksX7_init_2 21 rfl rfl)
theorem dX7_init_72 : decode cX7_init 72 = .ok (.aload_n 0, 1) := dk_42 (dk_at dksX7_init_3 0 rfl rfl)
theorem dX7_init_73 : decode cX7_init 73 = .ok (.new 38, 3) := dk_187 0 38 (dk_at dksX7_init_3 1 rfl rfl)
theorem dX7_init_76 : decode cX7_init 76 = .ok (.dup, 1) := dk_89 (dk_at dksX7_init_3 4 rfl rfl)
theorem dX7_init_77 : decode cX7_init 77 = .ok (.invokespecial 40, 3) := dk_183 0 40 (dk_at dksX7_init_3 5 rfl rfl)
theorem dX7_init_80 : decode cX7_init 80 = .ok (.putfield 41, 3) := dk_181 0 41 (dk_at dksX7_init_3 8 rfl rfl)
theorem dX7_init_83 : decode cX7_init 83 = .ok (.aload_n 0, 1) := dk_42 (dk_at dksX7_init_3 11 rfl rfl)
theorem dX7_init_84 : decode cX7_init 84 = .ok (.bipush 18, 2) := dk_16 18 (dk_at dksX7_init_3 12 rfl rfl)
theorem dX7_init_86 : decode cX7_init 86 = .ok (.anewarray 45, 3) := dk_189 0 45 (dk_at dksX7_init_3 14 rfl rfl)
theorem dX7_init_89 : decode cX7_init 89 = .ok (.putfield 47, 3) := dk_181 0 47 (dk_at dksX7_init_3 17 rfl rfl)
theorem dX7_init_92 : decode cX7_init 92 = .ok (.aload_n 0, 1) := dk_42 (dk_at dksX7_init_3 20 rfl rfl)
theorem dX7_init_93 : decode cX7_init 93 = .ok (.new 45, 3) := dk_187 0 45 (dk_at dksX7_init_3 21 rfl rfl)
theorem dX7_init_96 : decode cX7_init 96 = .ok (.dup, 1) := dk_89 (dk_at dksX7_init_4 0 rfl rfl)
theorem dX7_init_97 : decode cX7_init 97 = .ok (.invokespecial 51, 3) := dk_183 0 51 (dk_at dksX7_init_4 1 rfl rfl)
theorem dX7_init_100 : decode cX7_init 100 = .ok (.putfield 52, 3) := dk_181 0 52 (dk_at dksX7_init_4 4 rfl rfl)
theorem dX7_init_103 : decode cX7_init 103 = .ok (.aload_n 0, 1) := dk_42 (dk_at dksX7_init_4 7 rfl rfl)
theorem dX7_init_104 : decode cX7_init 104 = .ok (.new 56, 3) := dk_187 0 56 (dk_at dksX7_init_4 8 rfl rfl)
theorem dX7_init_107 : decode cX7_init 107 = .ok (.dup, 1) := dk_89 (dk_at dksX7_init_4 11 rfl rfl)
theorem dX7_init_108 : decode cX7_init 108 = .ok (.invokespecial 58, 3) := dk_183 0 58 (dk_at dksX7_init_4 12 rfl rfl)
theorem dX7_init_111 : decode cX7_init 111 = .ok (.putfield 59, 3) := dk_181 0 59 (dk_at dksX7_init_4 15 rfl rfl)
theorem dX7_init_114 : decode cX7_init 114 = .ok (.aload_n 0, 1) := dk_42 (dk_at dksX7_init_4 18 rfl rfl)
theorem dX7_init_115 : decode cX7_init 115 = .ok (.new 56, 3) := dk_187 0 56 (dk_at dksX7_init_4 19 rfl rfl)
theorem dX7_init_118 : decode cX7_init 118 = .ok (.dup, 1) := dk_89 (dk_at dksX7_init_4 22 rfl rfl)
theorem dX7_init_119 : decode cX7_init 119 = .ok (.invokespecial 58, 3) := dk_183 0 58 (dk_at dksX7_init_5 0 rfl rfl)
theorem dX7_init_122 : decode cX7_init 122 = .ok (.putfield 63, 3) := dk_181 0 63 (dk_at dksX7_init_5 3 rfl rfl)
theorem dX7_init_125 : decode cX7_init 125 = .ok (.aload_n 0, 1) := dk_42 (dk_at dksX7_init_5 6 rfl rfl)
theorem dX7_init_126 : decode cX7_init 126 = .ok (.new 56, 3) := dk_187 0 56 (dk_at dksX7_init_5 7 rfl rfl)
theorem dX7_init_129 : decode cX7_init 129 = .ok (.dup, 1) := dk_89 (dk_at dksX7_init_5 10 rfl rfl)
theorem dX7_init_130 : decode cX7_init 130 = .ok (.invokespecial 58, 3) := dk_183 0 58 (dk_at dksX7_init_5 11 rfl rfl)
theorem dX7_init_133 : decode cX7_init 133 = .ok (.putfield 66, 3) := dk_181 0 66 (dk_at dksX7_init_5 14 rfl rfl)
theorem dX7_init_136 : decode cX7_init 136 = .ok (.aload_n 0, 1) := dk_42 (dk_at dksX7_init_5 17 rfl rfl)
theorem dX7_init_137 : decode cX7_init 137 = .ok (.new 56, 3) := dk_187 0 56 (dk_at dksX7_init_5 18 rfl rfl)
theorem dX7_init_140 : decode cX7_init 140 = .ok (.dup, 1) := dk_89 (dk_at dksX7_init_5 21 rfl rfl)
theorem dX7_init_141 : decode cX7_init 141 = .ok (.invokespecial 58, 3) := dk_183 0 58 (dk_at dksX7_init_6 0 rfl rfl)
theorem dX7_init_144 : decode cX7_init 144 = .ok (.putfield 69, 3) := dk_181 0 69 (dk_at dksX7_init_6 3 rfl rfl)
theorem dX7_init_147 : decode cX7_init 147 = .ok (.aload_n 0, 1) := dk_42 (dk_at dksX7_init_6 6 rfl rfl)
theorem dX7_init_148 : decode cX7_init 148 = .ok (.new 56, 3) := dk_187 0 56 (dk_at dksX7_init_6 7 rfl rfl)
theorem dX7_init_151 : decode cX7_init 151 = .ok (.dup, 1) := dk_89 (dk_at dksX7_init_6 10 rfl rfl)
theorem dX7_init_152 : decode cX7_init 152 = .ok (.invokespecial 58, 3) := dk_183 0 58 (dk_at dksX7_init_6 11 rfl rfl)
theorem dX7_init_155 : decode cX7_init 155 = .ok (.putfield 72, 3) := dk_181 0 72 (dk_at dksX7_init_6 14 rfl rfl)
theorem dX7_init_158 : decode cX7_init 158 = .ok (.aload_n 0, 1) := dk_42 (dk_at dksX7_init_6 17 rfl rfl)
theorem dX7_init_159 : decode cX7_init 159 = .ok (.new 45, 3) := dk_187 0 45 (dk_at dksX7_init_6 18 rfl rfl)
theorem dX7_init_162 : decode cX7_init 162 = .ok (.dup, 1) := dk_89 (dk_at dksX7_init_6 21 rfl rfl)
theorem dX7_init_163 : decode cX7_init 163 = .ok (.invokespecial 51, 3) := dk_183 0 51 (dk_at dksX7_init_7 0 rfl rfl)
theorem dX7_init_166 : decode cX7_init 166 = .ok (.putfield 75, 3) := dk_181 0 75 (dk_at dksX7_init_7 3 rfl rfl)
theorem dX7_init_169 : decode cX7_init 169 = .ok (.aload_n 0, 1) := dk_42 (dk_at dksX7_init_7 6 rfl rfl)
theorem dX7_init_170 : decode cX7_init 170 = .ok (.new 45, 3) := dk_187 0 45 (dk_at dksX7_init_7 7 rfl rfl)
theorem dX7_init_173 : decode cX7_init 173 = .ok (.dup, 1) := dk_89 (dk_at dksX7_init_7 10 rfl rfl)
theorem dX7_init_174 : decode cX7_init 174 = .ok (.invokespecial 51, 3) := dk_183 0 51 (dk_at dksX7_init_7 11 rfl rfl)
theorem dX7_init_177 : decode cX7_init 177 = .ok (.putfield 78, 3) := dk_181 0 78 (dk_at dksX7_init_7 14 rfl rfl)
theorem dX7_init_180 : decode cX7_init 180 = .ok (.aload_n 0, 1) := dk_42 (dk_at dksX7_init_7 17 rfl rfl)
theorem dX7_init_181 : decode cX7_init 181 = .ok (.new 81, 3) := dk_187 0 81 (dk_at dksX7_init_7 18 rfl rfl)
theorem dX7_init_184 : decode cX7_init 184 = .ok (.dup, 1) := dk_89 (dk_at dksX7_init_7 21 rfl rfl)
theorem dX7_init_185 : decode cX7_init 185 = .ok (.invokespecial 83, 3) := dk_183 0 83 (dk_at dksX7_init_8 0 rfl rfl)
theorem dX7_init_188 : decode cX7_init 188 = .ok (.putfield 84, 3) := dk_181 0 84 (dk_at dksX7_init_8 3 rfl rfl)
theorem dX7_init_191 : decode cX7_init 191 = .ok (.aload_n 0, 1) := dk_42 (dk_at dksX7_init_8 6 rfl rfl)
theorem dX7_init_192 : decode cX7_init 192 = .ok (.iload_n 1, 1) := dk_27 (dk_at dksX7_init_8 7 rfl rfl)
theorem dX7_init_193 : decode cX7_init 193 = .ok (.iconst 1, 1) := dk_4 (dk_at dksX7_init_8 8 rfl rfl)
theorem dX7_init_194 : decode cX7_init 194 = .ok (.if_icmp .lt 12, 3) := dk_161 0 12 (dk_at dksX7_init_8 9 rfl rfl)
theorem dX7_init_197 : decode cX7_init 197 = .ok (.iload_n 1, 1) := dk_27 (dk_at dksX7_init_8 12 rfl rfl)
theorem dX7_init_198 : decode cX7_init 198 = .ok (.iconst 3, 1) := dk_6 (dk_at dksX7_init_8 13 rfl rfl)
theorem dX7_init_199 : decode cX7_init 199 = .ok (.if_icmp .gt 7, 3) := dk_163 0 7 (dk_at dksX7_init_8 14 rfl rfl)
theorem dX7_init_202 : decode cX7_init 202 = .ok (.iload_n 1, 1) := dk_27 (dk_at dksX7_init_8 17 rfl rfl)
theorem dX7_init_203 : decode cX7_init 203 = .ok (.goto 4, 3) := dk_167 0 4 (dk_at dksX7_init_8 18 rfl rfl)
theorem dX7_init_206 : decode cX7_init 206 = .ok (.iconst 1, 1) := dk_4 (dk_at dksX7_init_8 21 rfl rfl)
theorem dX7_init_207 : decode cX7_init 207 = .ok (.putfield 88, 3) := dk_181 0 88 (dk_at dksX7_init_9 0 rfl rfl)
theorem dX7_init_210 : decode cX7_init 210 = .ok (.iconst 0, 1) := dk_3 (dk_at dksX7_init_9 3 rfl rfl)
theorem dX7_init_211 : decode cX7_init 211 = .ok (.istore_n 2, 1) := dk_61 (dk_at dksX7_init_9 4 rfl rfl)
theorem dX7_init_212 : decode cX7_init 212 = .ok (.iload_n 2, 1) := dk_28 (dk_at dksX7_init_9 5 rfl rfl)
theorem dX7_init_213 : decode cX7_init 213 = .ok (.bipush 18, 2) := dk_16 18 (dk_at dksX7_init_9 6 rfl rfl)
theorem dX7_init_215 : decode cX7_init 215 = .ok (.if_icmp .ge 22, 3) := dk_162 0 22 (dk_at dksX7_init_9 8 rfl rfl)
theorem dX7_init_218 : decode cX7_init 218 = .ok (.aload_n 0, 1) := dk_42 (dk_at dksX7_init_9 11 rfl rfl)
theorem dX7_init_219 : decode cX7_init 219 = .ok (.getfield 47, 3) := dk_180 0 47 (dk_at dksX7_init_9 12 rfl rfl)
theorem dX7_init_222 : decode cX7_init 222 = .ok (.iload_n 2, 1) := dk_28 (dk_at dksX7_init_9 15 rfl rfl)
theorem dX7_init_223 : decode cX7_init 223 = .ok (.new 45, 3) := dk_187 0 45 (dk_at dksX7_init_9 16 rfl rfl)
theorem dX7_init_226 : decode cX7_init 226 = .ok (.dup, 1) := dk_89 (dk_at dksX7_init_9 19 rfl rfl)
theorem dX7_init_227 : decode cX7_init 227 = .ok (.invokespecial 51, 3) := dk_183 0 51 (dk_at dksX7_init_9 20 rfl rfl)
theorem dX7_init_230 : decode cX7_init 230 = .ok (.aastore, 1) := dk_83 (dk_at dksX7_init_9 23 rfl rfl)
theorem dX7_init_231 : decode cX7_init 231 = .ok (.iinc 2 1, 3) := dk_132 2 1 (dk_at dksX7_init_10 0 rfl rfl)
theorem dX7_init_234 : decode cX7_init 234 = .ok (.goto (-22), 3) := dk_167 255 234 (dk_at dksX7_init_10 3 rfl rfl)
theorem dX7_init_237 : decode cX7_init 237 = .ok (.iconst 0, 1) := dk_3 (dk_at dksX7_init_10 6 rfl rfl)
theorem dX7_init_238 : decode cX7_init 238 = .ok (.istore_n 2, 1) := dk_61 (dk_at dksX7_init_10 7 rfl rfl)
theorem dX7_init_239 : decode cX7_init 239 = .ok (.iload_n 2, 1) := dk_28 (dk_at dksX7_init_10 8 rfl rfl)
theorem dX7_init_240 : decode cX7_init 240 = .ok (.bipush 9, 2) := dk_16 9 (dk_at dksX7_init_10 9 rfl rfl)
theorem dX7_init_242 : decode cX7_init 242 = .ok (.if_icmp .ge 16, 3) := dk_162 0 16 (dk_at dksX7_init_10 11 rfl rfl)
theorem dX7_init_245 : decode cX7_init 245 = .ok (.aload_n 0, 1) := dk_42 (dk_at dksX7_init_10 14 rfl rfl)
theorem dX7_init_246 : decode cX7_init 246 = .ok (.getfield 13, 3) := dk_180 0 13 (dk_at dksX7_init_10 15 rfl rfl)
theorem dX7_init_249 : decode cX7_init 249 = .ok (.iload_n 2, 1) := dk_28 (dk_at dksX7_init_10 18 rfl rfl)
theorem dX7_init_250 : decode cX7_init 250 = .ok (.iconst (-1), 1) := dk_2 (dk_at dksX7_init_10 19 rfl rfl)
theorem dX7_init_251 : decode cX7_init 251 = .ok (.iastore, 1) := dk_79 (dk_at dksX7_init_10 20 rfl rfl)
theorem dX7_init_252 : decode cX7_init 252 = .ok (.iinc 2 1, 3) := dk_132 2 1 (dk_at dksX7_init_10 21 rfl rfl)
theorem dX7_init_255 : decode cX7_init 255 = .ok (.goto (-16), 3) := dk_167 255 240 (dk_at dksX7_init_11 0 rfl rfl)
theorem dX7_init_258 : decode cX7_init 258 = .ok (.return_, 1) := dk_177 (dk_at dksX7_init_11 3 rfl rfl)
abbrev cX7_feed : ByteArray := prog_42_method_11_code
def yX7_feed : MethodName := ⟨RX7, "feed", "(IIJ)Z"⟩
def dkwX7_feed_2 : List UInt8 := [181, 0, 97, 4, 172]
abbrev dktX7_feed_2 : List UInt8 := dkwX7_feed_2 ++ []
def dkwX7_feed_1 : List UInt8 := [20, 0, 121, 148, 158, 0, 5, 3, 172, 42, 180, 0, 25, 6, 27, 104, 28, 96, 33, 136, 79, 42, 3]
abbrev dktX7_feed_1 : List UInt8 := dkwX7_feed_1 ++ dktX7_feed_2
def dkwX7_feed_0 : List UInt8 := [42, 27, 182, 0, 104, 153, 0, 25, 42, 28, 182, 0, 108, 153, 0, 17, 33, 9, 148, 155, 0, 11, 33]
abbrev dktX7_feed_0 : List UInt8 := dkwX7_feed_0 ++ dktX7_feed_1
theorem dksX7_feed_0 : cX7_feed.data.toList.drop 0 = dktX7_feed_0 := by decide +kernel
theorem dksX7_feed_1 : cX7_feed.data.toList.drop 23 = dktX7_feed_1 := dk_seg dksX7_feed_0 23 rfl rfl
theorem dksX7_feed_2 : cX7_feed.data.toList.drop 46 = dktX7_feed_2 := dk_seg dksX7_feed_1 23 rfl rfl
theorem dX7_feed_0 : decode cX7_feed 0 = .ok (.aload_n 0, 1) := dk_42 (dk_at dksX7_feed_0 0 rfl rfl)
theorem dX7_feed_1 : decode cX7_feed 1 = .ok (.iload_n 1, 1) := dk_27 (dk_at dksX7_feed_0 1 rfl rfl)
theorem dX7_feed_2 : decode cX7_feed 2 = .ok (.invokevirtual 104, 3) := dk_182 0 104 (dk_at dksX7_feed_0 2 rfl rfl)
theorem dX7_feed_5 : decode cX7_feed 5 = .ok (.ifCond .eq 25, 3) := dk_153 0 25 (dk_at dksX7_feed_0 5 rfl rfl)
theorem dX7_feed_8 : decode cX7_feed 8 = .ok (.aload_n 0, 1) := dk_42 (dk_at dksX7_feed_0 8 rfl rfl)
theorem dX7_feed_9 : decode cX7_feed 9 = .ok (.iload_n 2, 1) := dk_28 (dk_at dksX7_feed_0 9 rfl rfl)
theorem dX7_feed_10 : decode cX7_feed 10 = .ok (.invokevirtual 108, 3) := dk_182 0 108 (dk_at dksX7_feed_0 10 rfl rfl)
theorem dX7_feed_13 : decode cX7_feed 13 = .ok (.ifCond .eq 17, 3) := dk_153 0 17 (dk_at dksX7_feed_0 13 rfl rfl)
theorem dX7_feed_16 : decode cX7_feed 16 = .ok (.lload_n 3, 1) := dk_33 (dk_at dksX7_feed_0 16 rfl rfl)
theorem dX7_feed_17 : decode cX7_feed 17 = .ok (.lconst 0, 1) := dk_9 (dk_at dksX7_feed_0 17 rfl rfl)
theorem dX7_feed_18 : decode cX7_feed 18 = .ok (.lcmp, 1) := dk_148 (dk_at dksX7_feed_0 18 rfl rfl)
theorem dX7_feed_19 : decode cX7_feed 19 = .ok (.ifCond .lt 11, 3) := dk_155 0 11 (dk_at dksX7_feed_0 19 rfl rfl)
theorem dX7_feed_22 : decode cX7_feed 22 = .ok (.lload_n 3, 1) := dk_33 (dk_at dksX7_feed_0 22 rfl rfl)
theorem dX7_feed_23 : decode cX7_feed 23 = .ok (.ldc2_w 121, 3) := dk_20 0 121 (dk_at dksX7_feed_1 0 rfl rfl)
theorem dX7_feed_26 : decode cX7_feed 26 = .ok (.lcmp, 1) := dk_148 (dk_at dksX7_feed_1 3 rfl rfl)
theorem dX7_feed_27 : decode cX7_feed 27 = .ok (.ifCond .le 5, 3) := dk_158 0 5 (dk_at dksX7_feed_1 4 rfl rfl)
theorem dX7_feed_30 : decode cX7_feed 30 = .ok (.iconst 0, 1) := dk_3 (dk_at dksX7_feed_1 7 rfl rfl)
theorem dX7_feed_31 : decode cX7_feed 31 = .ok (.ireturn, 1) := dk_172 (dk_at dksX7_feed_1 8 rfl rfl)
theorem dX7_feed_32 : decode cX7_feed 32 = .ok (.aload_n 0, 1) := dk_42 (dk_at dksX7_feed_1 9 rfl rfl)
theorem dX7_feed_33 : decode cX7_feed 33 = .ok (.getfield 25, 3) := dk_180 0 25 (dk_at dksX7_feed_1 10 rfl rfl)
theorem dX7_feed_36 : decode cX7_feed 36 = .ok (.iconst 3, 1) := dk_6 (dk_at dksX7_feed_1 13 rfl rfl)
theorem dX7_feed_37 : decode cX7_feed 37 = .ok (.iload_n 1, 1) := dk_27 (dk_at dksX7_feed_1 14 rfl rfl)
theorem dX7_feed_38 : decode cX7_feed 38 = .ok (.imul, 1) := dk_104 (dk_at dksX7_feed_1 15 rfl rfl)
theorem dX7_feed_39 : decode cX7_feed 39 = .ok (.iload_n 2, 1) := dk_28 (dk_at dksX7_feed_1 16 rfl rfl)
theorem dX7_feed_40 : decode cX7_feed 40 = .ok (.iadd, 1) := dk_96 (dk_at dksX7_feed_1 17 rfl rfl)
theorem dX7_feed_41 : decode cX7_feed 41 = .ok (.lload_n 3, 1) := dk_33 (dk_at dksX7_feed_1 18 rfl rfl)
theorem dX7_feed_42 : decode cX7_feed 42 = .ok (.l2i, 1) := dk_136 (dk_at dksX7_feed_1 19 rfl rfl)
theorem dX7_feed_43 : decode cX7_feed 43 = .ok (.iastore, 1) := dk_79 (dk_at dksX7_feed_1 20 rfl rfl)
theorem dX7_feed_44 : decode cX7_feed 44 = .ok (.aload_n 0, 1) := dk_42 (dk_at dksX7_feed_1 21 rfl rfl)
theorem dX7_feed_45 : decode cX7_feed 45 = .ok (.iconst 0, 1) := dk_3 (dk_at dksX7_feed_1 22 rfl rfl)
theorem dX7_feed_46 : decode cX7_feed 46 = .ok (.putfield 97, 3) := dk_181 0 97 (dk_at dksX7_feed_2 0 rfl rfl)
theorem dX7_feed_49 : decode cX7_feed 49 = .ok (.iconst 1, 1) := dk_4 (dk_at dksX7_feed_2 3 rfl rfl)
theorem dX7_feed_50 : decode cX7_feed 50 = .ok (.ireturn, 1) := dk_172 (dk_at dksX7_feed_2 4 rfl rfl)
abbrev cX7_isMachine : ByteArray := prog_42_method_2_code
def yX7_isMachine : MethodName := ⟨RX7, "isMachine", "(I)Z"⟩
def dkwX7_isMachine_0 : List UInt8 := [27, 155, 0, 15, 27, 42, 180, 0, 92, 162, 0, 7, 4, 167, 0, 4, 3, 172]
abbrev dktX7_isMachine_0 : List UInt8 := dkwX7_isMachine_0 ++ []
theorem dksX7_isMachine_0 : cX7_isMachine.data.toList.drop 0 = dktX7_isMachine_0 := by decide +kernel
theorem dX7_isMachine_0 : decode cX7_isMachine 0 = .ok (.iload_n 1, 1) := dk_27 (dk_at dksX7_isMachine_0 0 rfl rfl)
theorem dX7_isMachine_1 : decode cX7_isMachine 1 = .ok (.ifCond .lt 15, 3) := dk_155 0 15 (dk_at dksX7_isMachine_0 1 rfl rfl)
theorem dX7_isMachine_4 : decode cX7_isMachine 4 = .ok (.iload_n 1, 1) := dk_27 (dk_at dksX7_isMachine_0 4 rfl rfl)
theorem dX7_isMachine_5 : decode cX7_isMachine 5 = .ok (.aload_n 0, 1) := dk_42 (dk_at dksX7_isMachine_0 5 rfl rfl)
theorem dX7_isMachine_6 : decode cX7_isMachine 6 = .ok (.getfield 92, 3) := dk_180 0 92 (dk_at dksX7_isMachine_0 6 rfl rfl)
theorem dX7_isMachine_9 : decode cX7_isMachine 9 = .ok (.if_icmp .ge 7, 3) := dk_162 0 7 (dk_at dksX7_isMachine_0 9 rfl rfl)
theorem dX7_isMachine_12 : decode cX7_isMachine 12 = .ok (.iconst 1, 1) := dk_4 (dk_at dksX7_isMachine_0 12 rfl rfl)
theorem dX7_isMachine_13 : decode cX7_isMachine 13 = .ok (.goto 4, 3) := dk_167 0 4 (dk_at dksX7_isMachine_0 13 rfl rfl)
theorem dX7_isMachine_16 : decode cX7_isMachine 16 = .ok (.iconst 0, 1) := dk_3 (dk_at dksX7_isMachine_0 16 rfl rfl)
theorem dX7_isMachine_17 : decode cX7_isMachine 17 = .ok (.ireturn, 1) := dk_172 (dk_at dksX7_isMachine_0 17 rfl rfl)
abbrev cX7_isKind : ByteArray := prog_42_method_3_code
def yX7_isKind : MethodName := ⟨RX7, "isKind", "(I)Z"⟩
def dkwX7_isKind_0 : List UInt8 := [27, 155, 0, 15, 27, 42, 180, 0, 88, 162, 0, 7, 4, 167, 0, 4, 3, 172]
abbrev dktX7_isKind_0 : List UInt8 := dkwX7_isKind_0 ++ []
theorem dksX7_isKind_0 : cX7_isKind.data.toList.drop 0 = dktX7_isKind_0 := by decide +kernel
theorem dX7_isKind_0 : decode cX7_isKind 0 = .ok (.iload_n 1, 1) := dk_27 (dk_at dksX7_isKind_0 0 rfl rfl)
theorem dX7_isKind_1 : decode cX7_isKind 1 = .ok (.ifCond .lt 15, 3) := dk_155 0 15 (dk_at dksX7_isKind_0 1 rfl rfl)
theorem dX7_isKind_4 : decode cX7_isKind 4 = .ok (.iload_n 1, 1) := dk_27 (dk_at dksX7_isKind_0 4 rfl rfl)
theorem dX7_isKind_5 : decode cX7_isKind 5 = .ok (.aload_n 0, 1) := dk_42 (dk_at dksX7_isKind_0 5 rfl rfl)
theorem dX7_isKind_6 : decode cX7_isKind 6 = .ok (.getfield 88, 3) := dk_180 0 88 (dk_at dksX7_isKind_0 6 rfl rfl)
theorem dX7_isKind_9 : decode cX7_isKind 9 = .ok (.if_icmp .ge 7, 3) := dk_162 0 7 (dk_at dksX7_isKind_0 9 rfl rfl)
theorem dX7_isKind_12 : decode cX7_isKind 12 = .ok (.iconst 1, 1) := dk_4 (dk_at dksX7_isKind_0 12 rfl rfl)
theorem dX7_isKind_13 : decode cX7_isKind 13 = .ok (.goto 4, 3) := dk_167 0 4 (dk_at dksX7_isKind_0 13 rfl rfl)
theorem dX7_isKind_16 : decode cX7_isKind 16 = .ok (.iconst 0, 1) := dk_3 (dk_at dksX7_isKind_0 16 rfl rfl)
theorem dX7_isKind_17 : decode cX7_isKind 17 = .ok (.ireturn, 1) := dk_172 (dk_at dksX7_isKind_0 17 rfl rfl)
abbrev cX7_solve : ByteArray := prog_42_method_19_code
def yX7_solve : MethodName := ⟨RX7, "solve", "()I"⟩
def dkwX7_solve_8 : List UInt8 := [167, 255, 206, 3, 172]
abbrev dktX7_solve_8 : List UInt8 := dkwX7_solve_8 ++ []
def dkwX7_solve_7 : List UInt8 := [16, 9, 6, 29, 104, 96, 21, 4, 96, 50, 182, 0, 190, 132, 4, 1, 167, 255, 223, 132, 3, 1]
abbrev dktX7_solve_7 : List UInt8 := dkwX7_solve_7 ++ dktX7_solve_8
def dkwX7_solve_6 : List UInt8 := [162, 0, 48, 3, 54, 4, 21, 4, 42, 180, 0, 88, 162, 0, 30, 42, 29, 21, 4, 42, 180, 0, 47]
abbrev dktX7_solve_6 : List UInt8 := dkwX7_solve_6 ++ dktX7_solve_7
def dkwX7_solve_5 : List UInt8 := [182, 0, 187, 132, 4, 1, 167, 255, 216, 132, 3, 1, 167, 255, 199, 3, 62, 29, 42, 180, 0, 101]
abbrev dktX7_solve_5 : List UInt8 := dkwX7_solve_5 ++ dktX7_solve_6
def dkwX7_solve_4 : List UInt8 := [180, 0, 47, 6, 29, 104, 21, 4, 96, 50, 42, 29, 21, 4, 182, 0, 180, 42, 180, 0, 41, 182, 0, 183]
abbrev dktX7_solve_4 : List UInt8 := dkwX7_solve_4 ++ dktX7_solve_5
def dkwX7_solve_3 : List UInt8 := [62, 29, 42, 180, 0, 92, 162, 0, 55, 3, 54, 4, 21, 4, 42, 180, 0, 88, 162, 0, 37, 42]
abbrev dktX7_solve_3 : List UInt8 := dkwX7_solve_3 ++ dktX7_solve_4
def dkwX7_solve_2 : List UInt8 := [180, 0, 41, 182, 0, 170, 61, 42, 42, 180, 0, 92, 181, 0, 174, 42, 42, 180, 0, 101, 181, 0, 177, 3]
abbrev dktX7_solve_2 : List UInt8 := dkwX7_solve_2 ++ dktX7_solve_3
def dkwX7_solve_1 : List UInt8 := [181, 0, 97, 42, 180, 0, 163, 154, 0, 7, 4, 27, 96, 172, 42, 4, 2, 2, 182, 0, 166, 42]
abbrev dktX7_solve_1 : List UInt8 := dkwX7_solve_1 ++ dktX7_solve_2
def dkwX7_solve_0 : List UInt8 := [42, 182, 0, 159, 60, 42, 27, 2, 160, 0, 7, 4, 167, 0, 4, 3, 181, 0, 163, 42, 42, 180, 0, 163]
abbrev dktX7_solve_0 : List UInt8 := dkwX7_solve_0 ++ dktX7_solve_1
theorem dksX7_solve_0 : cX7_solve.data.toList.drop 0 = dktX7_solve_0 := by decide +kernel
theorem dksX7_solve_1 : cX7_solve.data.toList.drop 24 = dktX7_solve_1 := dk_seg dksX7_solve_0 24 rfl rfl
theorem dksX7_solve_2 : cX7_solve.data.toList.drop 46 = dktX7_solve_2 := dk_seg dksX7_solve_1 22 rfl rfl
theorem dksX7_solve_3 : cX7_solve.data.toList.drop 70 = dktX7_solve_3 := dk_seg dksX7_solve_2 24 rfl rfl
theorem dksX7_solve_4 : cX7_solve.data.toList.drop 92 = dktX7_solve_4 := dk_seg dksX7_solve_3 22 rfl rfl
theorem dksX7_solve_5 : cX7_solve.data.toList.drop 116 = dktX7_solve_5 := dk_seg dksX7_solve_4 24 rfl rfl
theorem dksX7_solve_6 : cX7_solve.data.toList.drop 138 = dktX7_solve_6 := dk_seg dksX7_solve_5 22 rfl rfl
theorem dksX7_solve_7 : cX7_solve.data.toList.drop 161 = dktX7_solve_7 := dk_seg dksX7_solve_6 23 rfl rfl
theorem dksX7_solve_8 : cX7_solve.data.toList.drop 183 = dktX7_solve_8 := dk_seg dksX7_solve_7 22 rfl rfl
theorem dX7_solve_0 : decode cX7_solve 0 = .ok (.aload_n 0, 1) := dk_42 (dk_at dksX7_solve_0 0 rfl rfl)
theorem dX7_solve_1 : decode cX7_solve 1 = .ok (.invokevirtual 159, 3) := dk_182 0 159 (dk_at dksX7_solve_0 1 rfl rfl)
theorem dX7_solve_4 : decode cX7_solve 4 = .ok (.istore_n 1, 1) := dk_60 (dk_at dksX7_solve_0 4 rfl rfl)
theorem dX7_solve_5 : decode cX7_solve 5 = .ok (.aload_n 0, 1) := dk_42 (dk_at dksX7_solve_0 5 rfl rfl)
theorem dX7_solve_6 : decode cX7_solve 6 = .ok (.iload_n 1, 1) := dk_27 (dk_at dksX7_solve_0 6 rfl rfl)
theorem dX7_solve_7 : decode cX7_solve 7 = .ok (.iconst (-1), 1) := dk_2 (dk_at dksX7_solve_0 7 rfl rfl)
theorem dX7_solve_8 : decode cX7_solve 8 = .ok (.if_icmp .ne 7, 3) := dk_160 0 7 (dk_at dksX7_solve_0 8 rfl rfl)
theorem dX7_solve_11 : decode cX7_solve 11 = .ok (.iconst 1, 1) := dk_4 (dk_at dksX7_solve_0 11 rfl rfl)
theorem dX7_solve_12 : decode cX7_solve 12 = .ok (.goto 4, 3) := dk_167 0 4 (dk_at dksX7_solve_0 12 rfl rfl)
theorem dX7_solve_15 : decode cX7_solve 15 = .ok (.iconst 0, 1) := dk_3 (dk_at dksX7_solve_0 15 rfl rfl)
theorem dX7_solve_16 : decode cX7_solve 16 = .ok (.putfield 163, 3) := dk_181 0 163 (dk_at dksX7_solve_0 16 rfl rfl)
theorem dX7_solve_19 : decode cX7_solve 19 = .ok (.aload_n 0, 1) := dk_42 (dk_at dksX7_solve_0 19 rfl rfl)
theorem dX7_solve_20 : decode cX7_solve 20 = .ok (.aload_n 0, 1) := dk_42 (dk_at dksX7_solve_0 20 rfl rfl)
theorem dX7_solve_21 : decode cX7_solve 21 = .ok (.getfield 163, 3) := dk_180 0 163 (dk_at dksX7_solve_0 21 rfl rfl)
theorem dX7_solve_24 : decode cX7_solve 24 = .ok (.putfield 97, 3) := dk_181 0 97 (dk_at dksX7_solve_1 0 rfl rfl)
theorem dX7_solve_27 : decode cX7_solve 27 = .ok (.aload_n 0, 1) := dk_42 (dk_at dksX7_solve_1 3 rfl rfl)
theorem dX7_solve_28 : decode cX7_solve 28 = .ok (.getfield 163, 3) := dk_180 0 163 (dk_at dksX7_solve_1 4 rfl rfl)
theorem dX7_solve_31 : decode cX7_solve 31 = .ok (.ifCond .ne 7, 3) := dk_154 0 7 (dk_at dksX7_solve_1 7 rfl rfl)
theorem dX7_solve_34 : decode cX7_solve 34 = .ok (.iconst 1, 1) := dk_4 (dk_at dksX7_solve_1 10 rfl rfl)
theorem dX7_solve_35 : decode cX7_solve 35 = .ok (.iload_n 1, 1) := dk_27 (dk_at dksX7_solve_1 11 rfl rfl)
theorem dX7_solve_36 : decode cX7_solve 36 = .ok (.iadd, 1) := dk_96 (dk_at dksX7_solve_1 12 rfl rfl)
theorem dX7_solve_37 : decode cX7_solve 37 = .ok (.ireturn, 1) := dk_172 (dk_at dksX7_solve_1 13 rfl rfl)
theorem dX7_solve_38 : decode cX7_solve 38 = .ok (.aload_n 0, 1) := dk_42 (dk_at dksX7_solve_1 14 rfl rfl)
theorem dX7_solve_39 : decode cX7_solve 39 = .ok (.iconst 1, 1) := dk_4 (dk_at dksX7_solve_1 15 rfl rfl)
theorem dX7_solve_40 : decode cX7_solve 40 = .ok (.iconst (-1), 1) := dk_2 (dk_at dksX7_solve_1 16 rfl rfl)
theorem dX7_solve_41 : decode cX7_solve 41 = .ok (.iconst (-1), 1) := dk_2 (dk_at dksX7_solve_1 17 rfl rfl)
theorem dX7_solve_42 : decode cX7_solve 42 = .ok (.invokevirtual 166, 3) := dk_182 0 166 (dk_at dksX7_solve_1 18 rfl rfl)
theorem dX7_solve_45 : decode cX7_solve 45 = .ok (.aload_n 0, 1) := dk_42 (dk_at dksX7_solve_1 21 rfl rfl)
theorem dX7_solve_46 : decode cX7_solve 46 = .ok (.getfield 41, 3) := dk_180 0 41 (dk_at dksX7_solve_2 0 rfl rfl)
theorem dX7_solve_49 : decode cX7_solve 49 = .ok (.invokevirtual 170, 3) := dk_182 0 170 (dk_at dksX7_solve_2 3 rfl rfl)
theorem dX7_solve_52 : decode cX7_solve 52 = .ok (.istore_n 2, 1) := dk_61 (dk_at dksX7_solve_2 6 rfl rfl)
theorem dX7_solve_53 : decode cX7_solve 53 = .ok (.aload_n 0, 1) := dk_42 (dk_at dksX7_solve_2 7 rfl rfl)
theorem dX7_solve_54 : decode cX7_solve 54 = .ok (.aload_n 0, 1) := dk_42 (dk_at dksX7_solve_2 8 rfl rfl)
theorem dX7_solve_55 : decode cX7_solve 55 = .ok (.getfield 92, 3) := dk_180 0 92 (dk_at dksX7_solve_2 9 rfl rfl)
theorem dX7_solve_58 : decode cX7_solve 58 = .ok (.putfield 174, 3) := dk_181 0 174 (dk_at dksX7_solve_2 12 rfl rfl)
theorem dX7_solve_61 : decode cX7_solve 61 = .ok (.aload_n 0, 1) := dk_42 (dk_at dksX7_solve_2 15 rfl rfl)
theorem dX7_solve_62 : decode cX7_solve 62 = .ok (.aload_n 0, 1) := dk_42 (dk_at dksX7_solve_2 16 rfl rfl)
theorem dX7_solve_63 : decode cX7_solve 63 = .ok (.getfield 101, 3) := dk_180 0 101 (dk_at dksX7_solve_2 17 rfl rfl)
theorem dX7_solve_66 : decode cX7_solve 66 = .ok (.putfield 177, 3) := dk_181 0 177 (dk_at dksX7_solve_2 20 rfl rfl)
theorem dX7_solve_69 : decode cX7_solve 69 = .ok (.iconst 0, 1) := dk_3 (dk_at dksX7_solve_2 23 rfl rfl)
theorem dX7_solve_70 : decode cX7_solve 70 = .ok (.istore_n 3, 1) := dk_62 (dk_at dksX7_solve_3 0 rfl rfl)
theorem dX7_solve_71 : decode cX7_solve 71 = .ok (.iload_n 3, 1) := dk_29 (dk_at dksX7_solve_3 1 rfl rfl)
theorem dX7_solve_72 : decode cX7_solve 72 = .ok (.aload_n 0, 1) := dk_42 (dk_at dksX7_solve_3 2 rfl rfl)
theorem dX7_solve_73 : decode cX7_solve 73 = .ok (.getfield 92, 3) := dk_180 0 92 (dk_at dksX7_solve_3 3 rfl rfl)
theorem dX7_solve_76 : decode cX7_solve 76 = .ok (.if_icmp .ge 55, 3) := dk_162 0 55 (dk_at dksX7_solve_3 6 rfl rfl)
theorem dX7_solve_79 : decode cX7_solve 79 = .ok (.iconst 0, 1) := dk_3 (dk_at dksX7_solve_3 9 rfl rfl)
theorem dX7_solve_80 : decode cX7_solve 80 = .ok (.istore 4, 2) := dk_54 4 (dk_at dksX7_solve_3 10 rfl rfl)
theorem dX7_solve_82 : decode cX7_solve 82 = .ok (.iload 4, 2) := dk_21 4 (dk_at dksX7_solve_3 12 rfl rfl)
theorem dX7_solve_84 : decode cX7_solve 84 = .ok (.aload_n 0, 1) := dk_42 (dk_at dksX7_solve_3 14 rfl rfl)
theorem dX7_solve_85 : decode cX7_solve 85 = .ok (.getfield 88, 3) := dk_180 0 88 (dk_at dksX7_solve_3 15 rfl rfl)
theorem dX7_solve_88 : decode cX7_solve 88 = .ok (.if_icmp .ge 37, 3) := dk_162 0 37 (dk_at dksX7_solve_3 18 rfl rfl)
theorem dX7_solve_91 : decode cX7_solve 91 = .ok (.aload_n 0, 1) := dk_42 (dk_at dksX7_solve_3 21 rfl rfl)
theorem dX7_solve_92 : decode cX7_solve 92 = .ok (.getfield 47, 3) := dk_180 0 47 (dk_at dksX7_solve_4 0 rfl rfl)
theorem dX7_solve_95 : decode cX7_solve 95 = .ok (.iconst 3, 1) := dk_6 (dk_at dksX7_solve_4 3 rfl rfl)
theorem dX7_solve_96 : decode cX7_solve 96 = .ok (.iload_n 3, 1) := dk_29 (dk_at dksX7_solve_4 4 rfl rfl)
theorem dX7_solve_97 : decode cX7_solve 97 = .ok (.imul, 1) := dk_104 (dk_at dksX7_solve_4 5 rfl rfl)
theorem dX7_solve_98 : decode cX7_solve 98 = .ok (.iload 4, 2) := dk_21 4 (dk_at dksX7_solve_4 6 rfl rfl)
theorem dX7_solve_100 : decode cX7_solve 100 = .ok (.iadd, 1) := dk_96 (dk_at dksX7_solve_4 8 rfl rfl)
theorem dX7_solve_101 : decode cX7_solve 101 = .ok (.aaload, 1) := dk_50 (dk_at dksX7_solve_4 9 rfl rfl)
theorem dX7_solve_102 : decode cX7_solve 102 = .ok (.aload_n 0, 1) := dk_42 (dk_at dksX7_solve_4 10 rfl rfl)
theorem dX7_solve_103 : decode cX7_solve 103 = .ok (.iload_n 3, 1) := dk_29 (dk_at dksX7_solve_4 11 rfl rfl)
theorem dX7_solve_104 : decode cX7_solve 104 = .ok (.iload 4, 2) := dk_21 4 (dk_at dksX7_solve_4 12 rfl rfl)
theorem dX7_solve_106 : decode cX7_solve 106 = .ok (.invokevirtual 180, 3) := dk_182 0 180 (dk_at dksX7_solve_4 14 rfl rfl)
theorem dX7_solve_109 : decode cX7_solve 109 = .ok (.aload_n 0, 1) := dk_42 (dk_at dksX7_solve_4 17 rfl rfl)
theorem dX7_solve_110 : decode cX7_solve 110 = .ok (.getfield 41, 3) := dk_180 0 41 (dk_at dksX7_solve_4 18 rfl rfl)
theorem dX7_solve_113 : decode cX7_solve 113 = .ok (.invokevirtual 183, 3) := dk_182 0 183 (dk_at dksX7_solve_4 21 rfl rfl)
theorem dX7_solve_116 : decode cX7_solve 116 = .ok (.invokevirtual 187, 3) := dk_182 0 187 (dk_at dksX7_solve_5 0 rfl rfl)
theorem dX7_solve_119 : decode cX7_solve 119 = .ok (.iinc 4 1, 3) := dk_132 4 1 (dk_at dksX7_solve_5 3 rfl rfl)
theorem dX7_solve_122 : decode cX7_solve 122 = .ok (.goto (-40), 3) := dk_167 255 216 (dk_at dksX7_solve_5 6 rfl rfl)
theorem dX7_solve_125 : decode cX7_solve 125 = .ok (.iinc 3 1, 3) := dk_132 3 1 (dk_at dksX7_solve_5 9 rfl rfl)
theorem dX7_solve_128 : decode cX7_solve 128 = .ok (.goto (-57), 3) := dk_167 255 199 (dk_at dksX7_solve_5 12 rfl rfl)
theorem dX7_solve_131 : decode cX7_solve 131 = .ok (.iconst 0, 1) := dk_3 (dk_at dksX7_solve_5 15 rfl rfl)
theorem dX7_solve_132 : decode cX7_solve 132 = .ok (.istore_n 3, 1) := dk_62 (dk_at dksX7_solve_5 16 rfl rfl)
theorem dX7_solve_133 : decode cX7_solve 133 = .ok (.iload_n 3, 1) := dk_29 (dk_at dksX7_solve_5 17 rfl rfl)
theorem dX7_solve_134 : decode cX7_solve 134 = .ok (.aload_n 0, 1) := dk_42 (dk_at dksX7_solve_5 18 rfl rfl)
theorem dX7_solve_135 : decode cX7_solve 135 = .ok (.getfield 101, 3) := dk_180 0 101 (dk_at dksX7_solve_5 19 rfl rfl)
theorem dX7_solve_138 : decode cX7_solve 138 = .ok (.if_icmp .ge 48, 3) := dk_162 0 48 (dk_at dksX7_solve_6 0 rfl rfl)
theorem dX7_solve_141 : decode cX7_solve 141 = .ok (.iconst 0, 1) := dk_3 (dk_at dksX7_solve_6 3 rfl rfl)
theorem dX7_solve_142 : decode cX7_solve 142 = .ok (.istore 4, 2) := dk_54 4 (dk_at dksX7_solve_6 4 rfl rfl)
theorem dX7_solve_144 : decode cX7_solve 144 = .ok (.iload 4, 2) := dk_21 4 (dk_at dksX7_solve_6 6 rfl rfl)
theorem dX7_solve_146 : decode cX7_solve 146 = .ok (.aload_n 0, 1) := dk_42 (dk_at dksX7_solve_6 8 rfl rfl)
theorem dX7_solve_147 : decode cX7_solve 147 = .ok (.getfield 88, 3) := dk_180 0 88 (dk_at dksX7_solve_6 9 rfl rfl)
theorem dX7_solve_150 : decode cX7_solve 150 = .ok (.if_icmp .ge 30, 3) := dk_162 0 30 (dk_at dksX7_solve_6 12 rfl rfl)
theorem dX7_solve_153 : decode cX7_solve 153 = .ok (.aload_n 0, 1) := dk_42 (dk_at dksX7_solve_6 15 rfl rfl)
theorem dX7_solve_154 : decode cX7_solve 154 = .ok (.iload_n 3, 1) := dk_29 (dk_at dksX7_solve_6 16 rfl rfl)
theorem dX7_solve_155 : decode cX7_solve 155 = .ok (.iload 4, 2) := dk_21 4 (dk_at dksX7_solve_6 17 rfl rfl)
theorem dX7_solve_157 : decode cX7_solve 157 = .ok (.aload_n 0, 1) := dk_42 (dk_at dksX7_solve_6 19 rfl rfl)
theorem dX7_solve_158 : decode cX7_solve 158 = .ok (.getfield 47, 3) := dk_180 0 47 (dk_at dksX7_solve_6 20 rfl rfl)
theorem dX7_solve_161 : decode cX7_solve 161 = .ok (.bipush 9, 2) := dk_16 9 (dk_at dksX7_solve_7 0 rfl rfl)
theorem dX7_solve_163 : decode cX7_solve 163 = .ok (.iconst 3, 1) := dk_6 (dk_at dksX7_solve_7 2 rfl rfl)
theorem dX7_solve_164 : decode cX7_solve 164 = .ok (.iload_n 3, 1) := dk_29 (dk_at dksX7_solve_7 3 rfl rfl)
theorem dX7_solve_165 : decode cX7_solve 165 = .ok (.imul, 1) := dk_104 (dk_at dksX7_solve_7 4 rfl rfl)
theorem dX7_solve_166 : decode cX7_solve 166 = .ok (.iadd, 1) := dk_96 (dk_at dksX7_solve_7 5 rfl rfl)
theorem dX7_solve_167 : decode cX7_solve 167 = .ok (.iload 4, 2) := dk_21 4 (dk_at dksX7_solve_7 6 rfl rfl)
theorem dX7_solve_169 : decode cX7_solve 169 = .ok (.iadd, 1) := dk_96 (dk_at dksX7_solve_7 8 rfl rfl)
theorem dX7_solve_170 : decode cX7_solve 170 = .ok (.aaload, 1) := dk_50 (dk_at dksX7_solve_7 9 rfl rfl)
theorem dX7_solve_171 : decode cX7_solve 171 = .ok (.invokevirtual 190, 3) := dk_182 0 190 (dk_at dksX7_solve_7 10 rfl rfl)
theorem dX7_solve_174 : decode cX7_solve 174 = .ok (.iinc 4 1, 3) := dk_132 4 1 (dk_at dksX7_solve_7 13 rfl rfl)
theorem dX7_solve_177 : decode cX7_solve 177 = .ok (.goto (-33), 3) := dk_167 255 223 (dk_at dksX7_solve_7 16 rfl rfl)
theorem dX7_solve_180 : decode cX7_solve 180 = .ok (.iinc 3 1, 3) := dk_132 3 1 (dk_at dksX7_solve_7 19 rfl rfl)
theorem dX7_solve_183 : decode cX7_solve 183 = .ok (.goto (-50), 3) := dk_167 255 206 (dk_at dksX7_solve_8 0 rfl rfl)
theorem dX7_solve_186 : decode cX7_solve 186 = .ok (.iconst 0, 1) := dk_3 (dk_at dksX7_solve_8 3 rfl rfl)
theorem dX7_solve_187 : decode cX7_solve 187 = .ok (.ireturn, 1) := dk_172 (dk_at dksX7_solve_8 4 rfl rfl)
abbrev cX7_loop : ByteArray := prog_42_method_14_code
def yX7_loop : MethodName := ⟨RX7, "loop", "()I"⟩
def dkwX7_loop_5 : List UInt8 := [126, 154, 0, 5, 29, 172, 132, 4, 1, 167, 255, 229, 132, 3, 1, 167, 255, 212, 2, 172]
abbrev dktX7_loop_5 : List UInt8 := dkwX7_loop_5 ++ []
def dkwX7_loop_4 : List UInt8 := [162, 0, 42, 3, 54, 4, 21, 4, 42, 180, 0, 88, 162, 0, 24, 27, 6, 29, 104, 21, 4, 96, 122, 4]
abbrev dktX7_loop_4 : List UInt8 := dkwX7_loop_4 ++ dktX7_loop_5
def dkwX7_loop_3 : List UInt8 := [167, 255, 198, 27, 29, 159, 0, 7, 4, 167, 0, 4, 3, 61, 167, 255, 175, 3, 62, 29, 42, 180, 0, 92]
abbrev dktX7_loop_3 : List UInt8 := dkwX7_loop_3 ++ dktX7_loop_4
def dkwX7_loop_2 : List UInt8 := [4, 6, 21, 4, 104, 21, 5, 96, 120, 167, 0, 4, 3, 128, 60, 132, 5, 1, 167, 255, 216, 132, 4, 1]
abbrev dktX7_loop_2 : List UInt8 := dkwX7_loop_2 ++ dktX7_loop_3
def dkwX7_loop_1 : List UInt8 := [54, 5, 21, 5, 42, 180, 0, 88, 162, 0, 37, 27, 42, 21, 4, 21, 5, 29, 182, 0, 125, 153, 0, 15]
abbrev dktX7_loop_1 : List UInt8 := dkwX7_loop_1 ++ dktX7_loop_2
def dkwX7_loop_0 : List UInt8 := [3, 60, 4, 61, 28, 153, 0, 83, 27, 62, 3, 54, 4, 21, 4, 42, 180, 0, 92, 162, 0, 55, 3]
abbrev dktX7_loop_0 : List UInt8 := dkwX7_loop_0 ++ dktX7_loop_1
theorem dksX7_loop_0 : cX7_loop.data.toList.drop 0 = dktX7_loop_0 := by decide +kernel
theorem dksX7_loop_1 : cX7_loop.data.toList.drop 23 = dktX7_loop_1 := dk_seg dksX7_loop_0 23 rfl rfl
theorem dksX7_loop_2 : cX7_loop.data.toList.drop 47 = dktX7_loop_2 := dk_seg dksX7_loop_1 24 rfl rfl
theorem dksX7_loop_3 : cX7_loop.data.toList.drop 71 = dktX7_loop_3 := dk_seg dksX7_loop_2 24 rfl rfl
theorem dksX7_loop_4 : cX7_loop.data.toList.drop 95 = dktX7_loop_4 := dk_seg dksX7_loop_3 24 rfl rfl
theorem dksX7_loop_5 : cX7_loop.data.toList.drop 119 = dktX7_loop_5 := dk_seg dksX7_loop_4 24 rfl rfl
theorem dX7_loop_0 : decode cX7_loop 0 = .ok (.iconst 0, 1) := dk_3 (dk_at dksX7_loop_0 0 rfl rfl)
theorem dX7_loop_1 : decode cX7_loop 1 = .ok (.istore_n 1, 1) := dk_60 (dk_at dksX7_loop_0 1 rfl rfl)
theorem dX7_loop_2 : decode cX7_loop 2 = .ok (.iconst 1, 1) := dk_4 (dk_at dksX7_loop_0 2 rfl rfl)
theorem dX7_loop_3 : decode cX7_loop 3 = .ok (.istore_n 2, 1) := dk_61 (dk_at dksX7_loop_0 3 rfl rfl)
theorem dX7_loop_4 : decode cX7_loop 4 = .ok (.iload_n 2, 1) := dk_28 (dk_at dksX7_loop_0 4 rfl rfl)
theorem dX7_loop_5 : decode cX7_loop 5 = .ok (.ifCond .eq 83, 3) := dk_153 0 83 (dk_at dksX7_loop_0 5 rfl rfl)
theorem dX7_loop_8 : decode cX7_loop 8 = .ok (.iload_n 1, 1) := dk_27 (dk_at dksX7_loop_0 8 rfl rfl)
theorem dX7_loop_9 : decode cX7_loop 9 = .ok (.istore_n 3, 1) := dk_62 (dk_at dksX7_loop_0 9 rfl rfl)
theorem dX7_loop_10 : decode cX7_loop 10 = .ok (.iconst 0, 1) := dk_3 (dk_at dksX7_loop_0 10 rfl rfl)
theorem dX7_loop_11 : decode cX7_loop 11 = .ok (.istore 4, 2) := dk_54 4 (dk_at dksX7_loop_0 11 rfl rfl)
theorem dX7_loop_13 : decode cX7_loop 13 = .ok (.iload 4, 2) := dk_21 4 (dk_at dksX7_loop_0 13 rfl rfl)
theorem dX7_loop_15 : decode cX7_loop 15 = .ok (.aload_n 0, 1) := dk_42 (dk_at dksX7_loop_0 15 rfl rfl)
theorem dX7_loop_16 : decode cX7_loop 16 = .ok (.getfield 92, 3) := dk_180 0 92 (dk_at dksX7_loop_0 16 rfl rfl)
theorem dX7_loop_19 : decode cX7_loop 19 = .ok (.if_icmp .ge 55, 3) := dk_162 0 55 (dk_at dksX7_loop_0 19 rfl rfl)
theorem dX7_loop_22 : decode cX7_loop 22 = .ok (.iconst 0, 1) := dk_3 (dk_at dksX7_loop_0 22 rfl rfl)
theorem dX7_loop_23 : decode cX7_loop 23 = .ok (.istore 5, 2) := dk_54 5 (dk_at dksX7_loop_1 0 rfl rfl)
theorem dX7_loop_25 : decode cX7_loop 25 = .ok (.iload 5, 2) := dk_21 5 (dk_at dksX7_loop_1 2 rfl rfl)
theorem dX7_loop_27 : decode cX7_loop 27 = .ok (.aload_n 0, 1) := dk_42 (dk_at dksX7_loop_1 4 rfl rfl)
theorem dX7_loop_28 : decode cX7_loop 28 = .ok (.getfield 88, 3) := dk_180 0 88 (dk_at dksX7_loop_1 5 rfl rfl)
theorem dX7_loop_31 : decode cX7_loop 31 = .ok (.if_icmp .ge 37, 3) := dk_162 0 37 (dk_at dksX7_loop_1 8 rfl rfl)
theorem dX7_loop_34 : decode cX7_loop 34 = .ok (.iload_n 1, 1) := dk_27 (dk_at dksX7_loop_1 11 rfl rfl)
theorem dX7_loop_35 : decode cX7_loop 35 = .ok (.aload_n 0, 1) := dk_42 (dk_at dksX7_loop_1 12 rfl rfl)
theorem dX7_loop_36 : decode cX7_loop 36 = .ok (.iload 4, 2) := dk_21 4 (dk_at dksX7_loop_1 13 rfl rfl)
theorem dX7_loop_38 : decode cX7_loop 38 = .ok (.iload 5, 2) := dk_21 5 (dk_at dksX7_loop_1 15 rfl rfl)
theorem dX7_loop_40 : decode cX7_loop 40 = .ok (.iload_n 3, 1) := dk_29 (dk_at dksX7_loop_1 17 rfl rfl)
theorem dX7_loop_41 : decode cX7_loop 41 = .ok (.invokevirtual 125, 3) := dk_182 0 125 (dk_at dksX7_loop_1 18 rfl rfl)
theorem dX7_loop_44 : decode cX7_loop 44 = .ok (.ifCond .eq 15, 3) := dk_153 0 15 (dk_at dksX7_loop_1 21 rfl rfl)
theorem dX7_loop_47 : decode cX7_loop 47 = .ok (.iconst 1, 1) := dk_4 (dk_at dksX7_loop_2 0 rfl rfl)
theorem dX7_loop_48 : decode cX7_loop 48 = .ok (.iconst 3, 1) := dk_6 (dk_at dksX7_loop_2 1 rfl rfl)
theorem dX7_loop_49 : decode cX7_loop 49 = .ok (.iload 4, 2) := dk_21 4 (dk_at dksX7_loop_2 2 rfl rfl)
theorem dX7_loop_51 : decode cX7_loop 51 = .ok (.imul, 1) := dk_104 (dk_at dksX7_loop_2 4 rfl rfl)
theorem dX7_loop_52 : decode cX7_loop 52 = .ok (.iload 5, 2) := dk_21 5 (dk_at dksX7_loop_2 5 rfl rfl)
theorem dX7_loop_54 : decode cX7_loop 54 = .ok (.iadd, 1) := dk_96 (dk_at dksX7_loop_2 7 rfl rfl)
theorem dX7_loop_55 : decode cX7_loop 55 = .ok (.ishl, 1) := dk_120 (dk_at dksX7_loop_2 8 rfl rfl)
theorem dX7_loop_56 : decode cX7_loop 56 = .ok (.goto 4, 3) := dk_167 0 4 (dk_at dksX7_loop_2 9 rfl rfl)
theorem dX7_loop_59 : decode cX7_loop 59 = .ok (.iconst 0, 1) := dk_3 (dk_at dksX7_loop_2 12 rfl rfl)
theorem dX7_loop_60 : decode cX7_loop 60 = .ok (.ior, 1) := dk_128 (dk_at dksX7_loop_2 13 rfl rfl)
theorem dX7_loop_61 : decode cX7_loop 61 = .ok (.istore_n 1, 1) := dk_60 (dk_at dksX7_loop_2 14 rfl rfl)
theorem dX7_loop_62 : decode cX7_loop 62 = .ok (.iinc 5 1, 3) := dk_132 5 1 (dk_at dksX7_loop_2 15 rfl rfl)
theorem dX7_loop_65 : decode cX7_loop 65 = .ok (.goto (-40), 3) := dk_167 255 216 (dk_at dksX7_loop_2 18 rfl rfl)
theorem dX7_loop_68 : decode cX7_loop 68 = .ok (.iinc 4 1, 3) := dk_132 4 1 (dk_at dksX7_loop_2 21 rfl rfl)
theorem dX7_loop_71 : decode cX7_loop 71 = .ok (.goto (-58), 3) := dk_167 255 198 (dk_at dksX7_loop_3 0 rfl rfl)
theorem dX7_loop_74 : decode cX7_loop 74 = .ok (.iload_n 1, 1) := dk_27 (dk_at dksX7_loop_3 3 rfl rfl)
theorem dX7_loop_75 : decode cX7_loop 75 = .ok (.iload_n 3, 1) := dk_29 (dk_at dksX7_loop_3 4 rfl rfl)
theorem dX7_loop_76 : decode cX7_loop 76 = .ok (.if_icmp .eq 7, 3) := dk_159 0 7 (dk_at dksX7_loop_3 5 rfl rfl)
theorem dX7_loop_79 : decode cX7_loop 79 = .ok (.iconst 1, 1) := dk_4 (dk_at dksX7_loop_3 8 rfl rfl)
theorem dX7_loop_80 : decode cX7_loop 80 = .ok (.goto 4, 3) := dk_167 0 4 (dk_at dksX7_loop_3 9 rfl rfl)
theorem dX7_loop_83 : decode cX7_loop 83 = .ok (.iconst 0, 1) := dk_3 (dk_at dksX7_loop_3 12 rfl rfl)
theorem dX7_loop_84 : decode cX7_loop 84 = .ok (.istore_n 2, 1) := dk_61 (dk_at dksX7_loop_3 13 rfl rfl)
theorem dX7_loop_85 : decode cX7_loop 85 = .ok (.goto (-81), 3) := dk_167 255 175 (dk_at dksX7_loop_3 14 rfl rfl)
theorem dX7_loop_88 : decode cX7_loop 88 = .ok (.iconst 0, 1) := dk_3 (dk_at dksX7_loop_3 17 rfl rfl)
theorem dX7_loop_89 : decode cX7_loop 89 = .ok (.istore_n 3, 1) := dk_62 (dk_at dksX7_loop_3 18 rfl rfl)
theorem dX7_loop_90 : decode cX7_loop 90 = .ok (.iload_n 3, 1) := dk_29 (dk_at dksX7_loop_3 19 rfl rfl)
theorem dX7_loop_91 : decode cX7_loop 91 = .ok (.aload_n 0, 1) := dk_42 (dk_at dksX7_loop_3 20 rfl rfl)
theorem dX7_loop_92 : decode cX7_loop 92 = .ok (.getfield 92, 3) := dk_180 0 92 (dk_at dksX7_loop_3 21 rfl rfl)
theorem dX7_loop_95 : decode cX7_loop 95 = .ok (.if_icmp .ge 42, 3) := dk_162 0 42 (dk_at dksX7_loop_4 0 rfl rfl)
theorem dX7_loop_98 : decode cX7_loop 98 = .ok (.iconst 0, 1) := dk_3 (dk_at dksX7_loop_4 3 rfl rfl)
theorem dX7_loop_99 : decode cX7_loop 99 = .ok (.istore 4, 2) := dk_54 4 (dk_at dksX7_loop_4 4 rfl rfl)
theorem dX7_loop_101 : decode cX7_loop 101 = .ok (.iload 4, 2) := dk_21 4 (dk_at dksX7_loop_4 6 rfl rfl)
theorem dX7_loop_103 : decode cX7_loop 103 = .ok (.aload_n 0, 1) := dk_42 (dk_at dksX7_loop_4 8 rfl rfl)
theorem dX7_loop_104 : decode cX7_loop 104 = .ok (.getfield 88, 3) := dk_180 0 88 (dk_at dksX7_loop_4 9 rfl rfl)
theorem dX7_loop_107 : decode cX7_loop 107 = .ok (.if_icmp .ge 24, 3) := dk_162 0 24 (dk_at dksX7_loop_4 12 rfl rfl)
theorem dX7_loop_110 : decode cX7_loop 110 = .ok (.iload_n 1, 1) := dk_27 (dk_at dksX7_loop_4 15 rfl rfl)
theorem dX7_loop_111 : decode cX7_loop 111 = .ok (.iconst 3, 1) := dk_6 (dk_at dksX7_loop_4 16 rfl rfl)
theorem dX7_loop_112 : decode cX7_loop 112 = .ok (.iload_n 3, 1) := dk_29 (dk_at dksX7_loop_4 17 rfl rfl)
theorem dX7_loop_113 : decode cX7_loop 113 = .ok (.imul, 1) := dk_104 (dk_at dksX7_loop_4 18 rfl rfl)
theorem dX7_loop_114 : decode cX7_loop 114 = .ok (.iload 4, 2) := dk_21 4 (dk_at dksX7_loop_4 19 rfl rfl)
theorem dX7_loop_116 : decode cX7_loop 116 = .ok (.iadd, 1) := dk_96 (dk_at dksX7_loop_4 21 rfl rfl)
theorem dX7_loop_117 : decode cX7_loop 117 = .ok (.ishr, 1) := dk_122 (dk_at dksX7_loop_4 22 rfl rfl)
theorem dX7_loop_118 : decode cX7_loop 118 = .ok (.iconst 1, 1) := dk_4 (dk_at dksX7_loop_4 23 rfl rfl)
theorem dX7_loop_119 : decode cX7_loop 119 = .ok (.iand, 1) := dk_126 (dk_at dksX7_loop_5 0 rfl rfl)
theorem dX7_loop_120 : decode cX7_loop 120 = .ok (.ifCond .ne 5, 3) := dk_154 0 5 (dk_at dksX7_loop_5 1 rfl rfl)
theorem dX7_loop_123 : decode cX7_loop 123 = .ok (.iload_n 3, 1) := dk_29 (dk_at dksX7_loop_5 4 rfl rfl)
theorem dX7_loop_124 : decode cX7_loop 124 = .ok (.ireturn, 1) := dk_172 (dk_at dksX7_loop_5 5 rfl rfl)
theorem dX7_loop_125 : decode cX7_loop 125 = .ok (.iinc 4 1, 3) := dk_132 4 1 (dk_at dksX7_loop_5 6 rfl rfl)
theorem dX7_loop_128 : decode cX7_loop 128 = .ok (.goto (-27), 3) := dk_167 255 229 (dk_at dksX7_loop_5 9 rfl rfl)
theorem dX7_loop_131 : decode cX7_loop 131 = .ok (.iinc 3 1, 3) := dk_132 3 1 (dk_at dksX7_loop_5 12 rfl rfl)
theorem dX7_loop_134 : decode cX7_loop 134 = .ok (.goto (-44), 3) := dk_167 255 212 (dk_at dksX7_loop_5 15 rfl rfl)
theorem dX7_loop_137 : decode cX7_loop 137 = .ok (.iconst (-1), 1) := dk_2 (dk_at dksX7_loop_5 18 rfl rfl)
theorem dX7_loop_138 : decode cX7_loop 138 = .ok (.ireturn, 1) := dk_172 (dk_at dksX7_loop_5 19 rfl rfl)
abbrev cX7_goesOut : ByteArray := prog_42_method_15_code
def yX7_goesOut : MethodName := ⟨RX7, "goesOut", "(III)Z"⟩
def dkwX7_goesOut_4 : List UInt8 := [54, 4, 132, 6, 1, 167, 255, 176, 132, 5, 1, 167, 255, 158, 21, 4, 172]
abbrev dktX7_goesOut_4 : List UInt8 := dkwX7_goesOut_4 ++ []
def dkwX7_goesOut_3 : List UInt8 := [155, 0, 18, 29, 6, 21, 7, 104, 21, 5, 96, 122, 4, 126, 4, 160, 0, 7, 4, 167, 0, 4, 3, 128]
abbrev dktX7_goesOut_3 : List UInt8 := dkwX7_goesOut_3 ++ dktX7_goesOut_4
def dkwX7_goesOut_2 : List UInt8 := [21, 6, 96, 46, 54, 7, 21, 4, 42, 27, 21, 5, 21, 6, 182, 0, 117, 158, 0, 27, 21, 7]
abbrev dktX7_goesOut_2 : List UInt8 := dkwX7_goesOut_2 ++ dktX7_goesOut_3
def dkwX7_goesOut_1 : List UInt8 := [27, 46, 162, 0, 75, 42, 27, 28, 21, 5, 182, 0, 129, 158, 0, 64, 42, 180, 0, 13, 6, 27, 104]
abbrev dktX7_goesOut_1 : List UInt8 := dkwX7_goesOut_1 ++ dktX7_goesOut_2
def dkwX7_goesOut_0 : List UInt8 := [3, 54, 4, 3, 54, 5, 21, 5, 42, 180, 0, 88, 162, 0, 95, 3, 54, 6, 21, 6, 42, 180, 0, 7]
abbrev dktX7_goesOut_0 : List UInt8 := dkwX7_goesOut_0 ++ dktX7_goesOut_1
theorem dksX7_goesOut_0 : cX7_goesOut.data.toList.drop 0 = dktX7_goesOut_0 := by decide +kernel
theorem dksX7_goesOut_1 : cX7_goesOut.data.toList.drop 24 = dktX7_goesOut_1 := dk_seg dksX7_goesOut_0 24 rfl rfl
theorem dksX7_goesOut_2 : cX7_goesOut.data.toList.drop 47 = dktX7_goesOut_2 := dk_seg dksX7_goesOut_1 23 rfl rfl
theorem dksX7_goesOut_3 : cX7_goesOut.data.toList.drop 69 = dktX7_goesOut_3 := dk_seg dksX7_goesOut_2 22 rfl rfl
theorem dksX7_goesOut_4 : cX7_goesOut.data.toList.drop 93 = dktX7_goesOut_4 := dk_seg dksX7_goesOut_3 24 rfl rfl
theorem dX7_goesOut_0 : decode cX7_goesOut 0 = .ok (.iconst 0, 1) := dk_3 (dk_at dksX7_goesOut_0 0 rfl rfl)
theorem dX7_goesOut_1 : decode cX7_goesOut 1 = .ok (.istore 4, 2) := dk_54 4 (dk_at dksX7_goesOut_0 1 rfl rfl)
theorem dX7_goesOut_3 : decode cX7_goesOut 3 = .ok (.iconst 0, 1) := dk_3 (dk_at dksX7_goesOut_0 3 rfl rfl)
theorem dX7_goesOut_4 : decode cX7_goesOut 4 = .ok (.istore 5, 2) := dk_54 5 (dk_at dksX7_goesOut_0 4 rfl rfl)
theorem dX7_goesOut_6 : decode cX7_goesOut 6 = .ok (.iload 5, 2) := dk_21 5 (dk_at dksX7_goesOut_0 6 rfl rfl)
theorem dX7_goesOut_8 : decode cX7_goesOut 8 = .ok (.aload_n 0, 1) := dk_42 (dk_at dksX7_goesOut_0 8 rfl rfl)
theorem dX7_goesOut_9 : decode cX7_goesOut 9 = .ok (.getfield 88, 3) := dk_180 0 88 (dk_at dksX7_goesOut_0 9 rfl rfl)
theorem dX7_goesOut_12 : decode cX7_goesOut 12 = .ok (.if_icmp .ge 95, 3) := dk_162 0 95 (dk_at dksX7_goesOut_0 12 rfl rfl)
theorem dX7_goesOut_15 : decode cX7_goesOut 15 = .ok (.iconst 0, 1) := dk_3 (dk_at dksX7_goesOut_0 15 rfl rfl)
theorem dX7_goesOut_16 : decode cX7_goesOut 16 = .ok (.istore 6, 2) := dk_54 6 (dk_at dksX7_goesOut_0 16 rfl rfl)
theorem dX7_goesOut_18 : decode cX7_goesOut 18 = .ok (.iload 6, 2) := dk_21 6 (dk_at dksX7_goesOut_0 18 rfl rfl)
theorem dX7_goesOut_20 : decode cX7_goesOut 20 = .ok (.aload_n 0, 1) := dk_42 (dk_at dksX7_goesOut_0 20 rfl rfl)
theorem dX7_goesOut_21 : decode cX7_goesOut 21 = .ok (.getfield 7, 3) := dk_180 0 7 (dk_at dksX7_goesOut_0 21 rfl rfl)
theorem dX7_goesOut_24 : decode cX7_goesOut 24 = .ok (.iload_n 1, 1) := dk_27 (dk_at dksX7_goesOut_1 0 rfl rfl)
theorem dX7_goesOut_25 : decode cX7_goesOut 25 = .ok (.iaload, 1) := dk_46 (dk_at dksX7_goesOut_1 1 rfl rfl)
theorem dX7_goesOut_26 : decode cX7_goesOut 26 = .ok (.if_icmp .ge 75, 3) := dk_162 0 75 (dk_at dksX7_goesOut_1 2 rfl rfl)
theorem dX7_goesOut_29 : decode cX7_goesOut 29 = .ok (.aload_n 0, 1) := dk_42 (dk_at dksX7_goesOut_1 5 rfl rfl)
theorem dX7_goesOut_30 : decode cX7_goesOut 30 = .ok (.iload_n 1, 1) := dk_27 (dk_at dksX7_goesOut_1 6 rfl rfl)
theorem dX7_goesOut_31 : decode cX7_goesOut 31 = .ok (.iload_n 2, 1) := dk_28 (dk_at dksX7_goesOut_1 7 rfl rfl)
theorem dX7_goesOut_32 : decode cX7_goesOut 32 = .ok (.iload 5, 2) := dk_21 5 (dk_at dksX7_goesOut_1 8 rfl rfl)
theorem dX7_goesOut_34 : decode cX7_goesOut 34 = .ok (.invokevirtual 129, 3) := dk_182 0 129 (dk_at dksX7_goesOut_1 10 rfl rfl)
theorem dX7_goesOut_37 : decode cX7_goesOut 37 = .ok (.ifCond .le 64, 3) := dk_158 0 64 (dk_at dksX7_goesOut_1 13 rfl rfl)
theorem dX7_goesOut_40 : decode cX7_goesOut 40 = .ok (.aload_n 0, 1) := dk_42 (dk_at dksX7_goesOut_1 16 rfl rfl)
theorem dX7_goesOut_41 : decode cX7_goesOut 41 = .ok (.getfield 13, 3) := dk_180 0 13 (dk_at dksX7_goesOut_1 17 rfl rfl)
theorem dX7_goesOut_44 : decode cX7_goesOut 44 = .ok (.iconst 3, 1) := dk_6 (dk_at dksX7_goesOut_1 20 rfl rfl)
theorem dX7_goesOut_45 : decode cX7_goesOut 45 = .ok (.iload_n 1, 1) := dk_27 (dk_at dksX7_goesOut_1 21 rfl rfl)
theorem dX7_goesOut_46 : decode cX7_goesOut 46 = .ok (.imul, 1) := dk_104 (dk_at dksX7_goesOut_1 22 rfl rfl)
theorem dX7_goesOut_47 : decode cX7_goesOut 47 = .ok (.iload 6, 2) := dk_21 6 (dk_at dksX7_goesOut_2 0 rfl rfl)
theorem dX7_goesOut_49 : decode cX7_goesOut 49 = .ok (.iadd, 1) := dk_96 (dk_at dksX7_goesOut_2 2 rfl rfl)
theorem dX7_goesOut_50 : decode cX7_goesOut 50 = .ok (.iaload, 1) := dk_46 (dk_at dksX7_goesOut_2 3 rfl rfl)
theorem dX7_goesOut_51 : decode cX7_goesOut 51 = .ok (.istore 7, 2) := dk_54 7 (dk_at dksX7_goesOut_2 4 rfl rfl)
theorem dX7_goesOut_53 : decode cX7_goesOut 53 = .ok (.iload 4, 2) := dk_21 4 (dk_at dksX7_goesOut_2 6 rfl rfl)
theorem dX7_goesOut_55 : decode cX7_goesOut 55 = .ok (.aload_n 0, 1) := dk_42 (dk_at dksX7_goesOut_2 8 rfl rfl)
theorem dX7_goesOut_56 : decode cX7_goesOut 56 = .ok (.iload_n 1, 1) := dk_27 (dk_at dksX7_goesOut_2 9 rfl rfl)
theorem dX7_goesOut_57 : decode cX7_goesOut 57 = .ok (.iload 5, 2) := dk_21 5 (dk_at dksX7_goesOut_2 10 rfl rfl)
theorem dX7_goesOut_59 : decode cX7_goesOut 59 = .ok (.iload 6, 2) := dk_21 6 (dk_at dksX7_goesOut_2 12 rfl rfl)
theorem dX7_goesOut_61 : decode cX7_goesOut 61 = .ok (.invokevirtual 117, 3) := dk_182 0 117 (dk_at dksX7_goesOut_2 14 rfl rfl)
theorem dX7_goesOut_64 : decode cX7_goesOut 64 = .ok (.ifCond .le 27, 3) := dk_158 0 27 (dk_at dksX7_goesOut_2 17 rfl rfl)
theorem dX7_goesOut_67 : decode cX7_goesOut 67 = .ok (.iload 7, 2) := dk_21 7 (dk_at dksX7_goesOut_2 20 rfl rfl)
theorem dX7_goesOut_69 : decode cX7_goesOut 69 = .ok (.ifCond .lt 18, 3) := dk_155 0 18 (dk_at dksX7_goesOut_3 0 rfl rfl)
theorem dX7_goesOut_72 : decode cX7_goesOut 72 = .ok (.iload_n 3, 1) := dk_29 (dk_at dksX7_goesOut_3 3 rfl rfl)
theorem dX7_goesOut_73 : decode cX7_goesOut 73 = .ok (.iconst 3, 1) := dk_6 (dk_at dksX7_goesOut_3 4 rfl rfl)
theorem dX7_goesOut_74 : decode cX7_goesOut 74 = .ok (.iload 7, 2) := dk_21 7 (dk_at dksX7_goesOut_3 5 rfl rfl)
theorem dX7_goesOut_76 : decode cX7_goesOut 76 = .ok (.imul, 1) := dk_104 (dk_at dksX7_goesOut_3 7 rfl rfl)
theorem dX7_goesOut_77 : decode cX7_goesOut 77 = .ok (.iload 5, 2) := dk_21 5 (dk_at dksX7_goesOut_3 8 rfl rfl)
theorem dX7_goesOut_79 : decode cX7_goesOut 79 = .ok (.iadd, 1) := dk_96 (dk_at dksX7_goesOut_3 10 rfl rfl)
theorem dX7_goesOut_80 : decode cX7_goesOut 80 = .ok (.ishr, 1) := dk_122 (dk_at dksX7_goesOut_3 11 rfl rfl)
theorem dX7_goesOut_81 : decode cX7_goesOut 81 = .ok (.iconst 1, 1) := dk_4 (dk_at dksX7_goesOut_3 12 rfl rfl)
theorem dX7_goesOut_82 : decode cX7_goesOut 82 = .ok (.iand, 1) := dk_126 (dk_at dksX7_goesOut_3 13 rfl rfl)
theorem dX7_goesOut_83 : decode cX7_goesOut 83 = .ok (.iconst 1, 1) := dk_4 (dk_at dksX7_goesOut_3 14 rfl rfl)
theorem dX7_goesOut_84 : decode cX7_goesOut 84 = .ok (.if_icmp .ne 7, 3) := dk_160 0 7 (dk_at dksX7_goesOut_3 15 rfl rfl)
theorem dX7_goesOut_87 : decode cX7_goesOut 87 = .ok (.iconst 1, 1) := dk_4 (dk_at dksX7_goesOut_3 18 rfl rfl)
theorem dX7_goesOut_88 : decode cX7_goesOut 88 = .ok (.goto 4, 3) := dk_167 0 4 (dk_at dksX7_goesOut_3 19 rfl rfl)
theorem dX7_goesOut_91 : decode cX7_goesOut 91 = .ok (.iconst 0, 1) := dk_3 (dk_at dksX7_goesOut_3 22 rfl rfl)
theorem dX7_goesOut_92 : decode cX7_goesOut 92 = .ok (.ior, 1) := dk_128 (dk_at dksX7_goesOut_3 23 rfl rfl)
theorem dX7_goesOut_93 : decode cX7_goesOut 93 = .ok (.istore 4, 2) := dk_54 4 (dk_at dksX7_goesOut_4 0 rfl rfl)
theorem dX7_goesOut_95 : decode cX7_goesOut 95 = .ok (.iinc 6 1, 3) := dk_132 6 1 (dk_at dksX7_goesOut_4 2 rfl rfl)
theorem dX7_goesOut_98 : decode cX7_goesOut 98 = .ok (.goto (-80), 3) := dk_167 255 176 (dk_at dksX7_goesOut_4 5 rfl rfl)
theorem dX7_goesOut_101 : decode cX7_goesOut 101 = .ok (.iinc 5 1, 3) := dk_132 5 1 (dk_at dksX7_goesOut_4 8 rfl rfl)
theorem dX7_goesOut_104 : decode cX7_goesOut 104 = .ok (.goto (-98), 3) := dk_167 255 158 (dk_at dksX7_goesOut_4 11 rfl rfl)
theorem dX7_goesOut_107 : decode cX7_goesOut 107 = .ok (.iload 4, 2) := dk_21 4 (dk_at dksX7_goesOut_4 14 rfl rfl)
theorem dX7_goesOut_109 : decode cX7_goesOut 109 = .ok (.ireturn, 1) := dk_172 (dk_at dksX7_goesOut_4 16 rfl rfl)
abbrev cX7_turned : ByteArray := prog_42_method_13_code
def yX7_turned : MethodName := ⟨RX7, "turned", "(III)I"⟩
def dkwX7_turned_2 : List UInt8 := [21, 4, 46, 29, 160, 0, 8, 21, 5, 167, 0, 4, 3, 172]
abbrev dktX7_turned_2 : List UInt8 := dkwX7_turned_2 ++ []
def dkwX7_turned_1 : List UInt8 := [167, 0, 4, 3, 54, 5, 28, 29, 160, 0, 12, 17, 108, 72, 21, 5, 100, 167, 0, 20, 42, 180, 0, 19]
abbrev dktX7_turned_1 : List UInt8 := dkwX7_turned_1 ++ dktX7_turned_2
def dkwX7_turned_0 : List UInt8 := [6, 27, 104, 28, 96, 54, 4, 42, 180, 0, 22, 21, 4, 46, 158, 0, 13, 42, 180, 0, 22, 21, 4, 46]
abbrev dktX7_turned_0 : List UInt8 := dkwX7_turned_0 ++ dktX7_turned_1
theorem dksX7_turned_0 : cX7_turned.data.toList.drop 0 = dktX7_turned_0 := by decide +kernel
theorem dksX7_turned_1 : cX7_turned.data.toList.drop 24 = dktX7_turned_1 := dk_seg dksX7_turned_0 24 rfl rfl
theorem dksX7_turned_2 : cX7_turned.data.toList.drop 48 = dktX7_turned_2 := dk_seg dksX7_turned_1 24 rfl rfl
theorem dX7_turned_0 : decode cX7_turned 0 = .ok (.iconst 3, 1) := dk_6 (dk_at dksX7_turned_0 0 rfl rfl)
theorem dX7_turned_1 : decode cX7_turned 1 = .ok (.iload_n 1, 1) := dk_27 (dk_at dksX7_turned_0 1 rfl rfl)
theorem dX7_turned_2 : decode cX7_turned 2 = .ok (.imul, 1) := dk_104 (dk_at dksX7_turned_0 2 rfl rfl)
theorem dX7_turned_3 : decode cX7_turned 3 = .ok (.iload_n 2, 1) := dk_28 (dk_at dksX7_turned_0 3 rfl rfl)
theorem dX7_turned_4 : decode cX7_turned 4 = .ok (.iadd, 1) := dk_96 (dk_at dksX7_turned_0 4 rfl rfl)
theorem dX7_turned_5 : decode cX7_turned 5 = .ok (.istore 4, 2) := dk_54 4 (dk_at dksX7_turned_0 5 rfl rfl)
theorem dX7_turned_7 : decode cX7_turned 7 = .ok (.aload_n 0, 1) := dk_42 (dk_at dksX7_turned_0 7 rfl rfl)
theorem dX7_turned_8 : decode cX7_turned 8 = .ok (.getfield 22, 3) := dk_180 0 22 (dk_at dksX7_turned_0 8 rfl rfl)
theorem dX7_turned_11 : decode cX7_turned 11 = .ok (.iload 4, 2) := dk_21 4 (dk_at dksX7_turned_0 11 rfl rfl)
theorem dX7_turned_13 : decode cX7_turned 13 = .ok (.iaload, 1) := dk_46 (dk_at dksX7_turned_0 13 rfl rfl)
theorem dX7_turned_14 : decode cX7_turned 14 = .ok (.ifCond .le 13, 3) := dk_158 0 13 (dk_at dksX7_turned_0 14 rfl rfl)
theorem dX7_turned_17 : decode cX7_turned 17 = .ok (.aload_n 0, 1) := dk_42 (dk_at dksX7_turned_0 17 rfl rfl)
theorem dX7_turned_18 : decode cX7_turned 18 = .ok (.getfield 22, 3) := dk_180 0 22 (dk_at dksX7_turned_0 18 rfl rfl)
theorem dX7_turned_21 : decode cX7_turned 21 = .ok (.iload 4, 2) := dk_21 4 (dk_at dksX7_turned_0 21 rfl rfl)
theorem dX7_turned_23 : decode cX7_turned 23 = .ok (.iaload, 1) := dk_46 (dk_at dksX7_turned_0 23 rfl rfl)
theorem dX7_turned_24 : decode cX7_turned 24 = .ok (.goto 4, 3) := dk_167 0 4 (dk_at dksX7_turned_1 0 rfl rfl)
theorem dX7_turned_27 : decode cX7_turned 27 = .ok (.iconst 0, 1) := dk_3 (dk_at dksX7_turned_1 3 rfl rfl)
theorem dX7_turned_28 : decode cX7_turned 28 = .ok (.istore 5, 2) := dk_54 5 (dk_at dksX7_turned_1 4 rfl rfl)
theorem dX7_turned_30 : decode cX7_turned 30 = .ok (.iload_n 2, 1) := dk_28 (dk_at dksX7_turned_1 6 rfl rfl)
theorem dX7_turned_31 : decode cX7_turned 31 = .ok (.iload_n 3, 1) := dk_29 (dk_at dksX7_turned_1 7 rfl rfl)
theorem dX7_turned_32 : decode cX7_turned 32 = .ok (.if_icmp .ne 12, 3) := dk_160 0 12 (dk_at dksX7_turned_1 8 rfl rfl)
theorem dX7_turned_35 : decode cX7_turned 35 = .ok (.sipush 27720, 3) := dk_17 108 72 (dk_at dksX7_turned_1 11 rfl rfl)
theorem dX7_turned_38 : decode cX7_turned 38 = .ok (.iload 5, 2) := dk_21 5 (dk_at dksX7_turned_1 14 rfl rfl)
theorem dX7_turned_40 : decode cX7_turned 40 = .ok (.isub, 1) := dk_100 (dk_at dksX7_turned_1 16 rfl rfl)
theorem dX7_turned_41 : decode cX7_turned 41 = .ok (.goto 20, 3) := dk_167 0 20 (dk_at dksX7_turned_1 17 rfl rfl)
theorem dX7_turned_44 : decode cX7_turned 44 = .ok (.aload_n 0, 1) := dk_42 (dk_at dksX7_turned_1 20 rfl rfl)
theorem dX7_turned_45 : decode cX7_turned 45 = .ok (.getfield 19, 3) := dk_180 0 19 (dk_at dksX7_turned_1 21 rfl rfl)
theorem dX7_turned_48 : decode cX7_turned 48 = .ok (.iload 4, 2) := dk_21 4 (dk_at dksX7_turned_2 0 rfl rfl)
theorem dX7_turned_50 : decode cX7_turned 50 = .ok (.iaload, 1) := dk_46 (dk_at dksX7_turned_2 2 rfl rfl)
theorem dX7_turned_51 : decode cX7_turned 51 = .ok (.iload_n 3, 1) := dk_29 (dk_at dksX7_turned_2 3 rfl rfl)
theorem dX7_turned_52 : decode cX7_turned 52 = .ok (.if_icmp .ne 8, 3) := dk_160 0 8 (dk_at dksX7_turned_2 4 rfl rfl)
theorem dX7_turned_55 : decode cX7_turned 55 = .ok (.iload 5, 2) := dk_21 5 (dk_at dksX7_turned_2 7 rfl rfl)
theorem dX7_turned_57 : decode cX7_turned 57 = .ok (.goto 4, 3) := dk_167 0 4 (dk_at dksX7_turned_2 9 rfl rfl)
theorem dX7_turned_60 : decode cX7_turned 60 = .ok (.iconst 0, 1) := dk_3 (dk_at dksX7_turned_2 12 rfl rfl)
theorem dX7_turned_61 : decode cX7_turned 61 = .ok (.ireturn, 1) := dk_172 (dk_at dksX7_turned_2 13 rfl rfl)
abbrev cX7_shareOf : ByteArray := prog_42_method_8_code
def yX7_shareOf : MethodName := ⟨RX7, "shareOf", "(III)I"⟩
def dkwX7_shareOf_3 : List UInt8 := [132, 5, 1, 167, 255, 219, 21, 4, 172]
abbrev dktX7_shareOf_3 : List UInt8 := dkwX7_shareOf_3 ++ []
def dkwX7_shareOf_2 : List UInt8 := [162, 0, 30, 21, 4, 42, 180, 0, 16, 16, 9, 27, 104, 6, 28, 104, 96, 21, 5, 96, 46, 100, 54, 4]
abbrev dktX7_shareOf_2 : List UInt8 := dkwX7_shareOf_2 ++ dktX7_shareOf_3
def dkwX7_shareOf_1 : List UInt8 := [29, 96, 46, 172, 17, 108, 72, 54, 4, 3, 54, 5, 21, 5, 42, 180, 0, 7, 27, 46, 4, 100]
abbrev dktX7_shareOf_1 : List UInt8 := dkwX7_shareOf_1 ++ dktX7_shareOf_2
def dkwX7_shareOf_0 : List UInt8 := [29, 42, 180, 0, 7, 27, 46, 4, 100, 162, 0, 19, 42, 180, 0, 16, 16, 9, 27, 104, 6, 28, 104, 96]
abbrev dktX7_shareOf_0 : List UInt8 := dkwX7_shareOf_0 ++ dktX7_shareOf_1
theorem dksX7_shareOf_0 : cX7_shareOf.data.toList.drop 0 = dktX7_shareOf_0 := by decide +kernel
theorem dksX7_shareOf_1 : cX7_shareOf.data.toList.drop 24 = dktX7_shareOf_1 := dk_seg dksX7_shareOf_0 24 rfl rfl
theorem dksX7_shareOf_2 : cX7_shareOf.data.toList.drop 46 = dktX7_shareOf_2 := dk_seg dksX7_shareOf_1 22 rfl rfl
theorem dksX7_shareOf_3 : cX7_shareOf.data.toList.drop 70 = dktX7_shareOf_3 := dk_seg dksX7_shareOf_2 24 rfl rfl
theorem dX7_shareOf_0 : decode cX7_shareOf 0 = .ok (.iload_n 3, 1) := dk_29 (dk_at dksX7_shareOf_0 0 rfl rfl)
theorem dX7_shareOf_1 : decode cX7_shareOf 1 = .ok (.aload_n 0, 1) := dk_42 (dk_at dksX7_shareOf_0 1 rfl rfl)
theorem dX7_shareOf_2 : decode cX7_shareOf 2 = .ok (.getfield 7, 3) := dk_180 0 7 (dk_at dksX7_shareOf_0 2 rfl rfl)
theorem dX7_shareOf_5 : decode cX7_shareOf 5 = .ok (.iload_n 1, 1) := dk_27 (dk_at dksX7_shareOf_0 5 rfl rfl)
theorem dX7_shareOf_6 : decode cX7_shareOf 6 = .ok (.iaload, 1) := dk_46 (dk_at dksX7_shareOf_0 6 rfl rfl)
theorem dX7_shareOf_7 : decode cX7_shareOf 7 = .ok (.iconst 1, 1) := dk_4 (dk_at dksX7_shareOf_0 7 rfl rfl)
theorem dX7_shareOf_8 : decode cX7_shareOf 8 = .ok (.isub, 1) := dk_100 (dk_at dksX7_shareOf_0 8 rfl rfl)
theorem dX7_shareOf_9 : decode cX7_shareOf 9 = .ok (.if_icmp .ge 19, 3) := dk_162 0 19 (dk_at dksX7_shareOf_0 9 rfl rfl)
theorem dX7_shareOf_12 : decode cX7_shareOf 12 = .ok (.aload_n 0, 1) := dk_42 (dk_at dksX7_shareOf_0 12 rfl rfl)
theorem dX7_shareOf_13 : decode cX7_shareOf 13 = .ok (.getfield 16, 3) := dk_180 0 16 (dk_at dksX7_shareOf_0 13 rfl rfl)
theorem dX7_shareOf_16 : decode cX7_shareOf 16 = .ok (.bipush 9, 2) := dk_16 9 (dk_at dksX7_shareOf_0 16 rfl rfl)
theorem dX7_shareOf_18 : decode cX7_shareOf 18 = .ok (.iload_n 1, 1) := dk_27 (dk_at dksX7_shareOf_0 18 rfl rfl)
theorem dX7_shareOf_19 : decode cX7_shareOf 19 = .ok (.imul, 1) := dk_104 (dk_at dksX7_shareOf_0 19 rfl rfl)
theorem dX7_shareOf_20 : decode cX7_shareOf 20 = .ok (.iconst 3, 1) := dk_6 (dk_at dksX7_shareOf_0 20 rfl rfl)
theorem dX7_shareOf_21 : decode cX7_shareOf 21 = .ok (.iload_n 2, 1) := dk_28 (dk_at dksX7_shareOf_0 21 rfl rfl)
theorem dX7_shareOf_22 : decode cX7_shareOf 22 = .ok (.imul, 1) := dk_104 (dk_at dksX7_shareOf_0 22 rfl rfl)
theorem dX7_shareOf_23 : decode cX7_shareOf 23 = .ok (.iadd, 1) := dk_96 (dk_at dksX7_shareOf_0 23 rfl rfl)
theorem dX7_shareOf_24 : decode cX7_shareOf 24 = .ok (.iload_n 3, 1) := dk_29 (dk_at dksX7_shareOf_1 0 rfl rfl)
theorem dX7_shareOf_25 : decode cX7_shareOf 25 = .ok (.iadd, 1) := dk_96 (dk_at dksX7_shareOf_1 1 rfl rfl)
theorem dX7_shareOf_26 : decode cX7_shareOf 26 = .ok (.iaload, 1) := dk_46 (dk_at dksX7_shareOf_1 2 rfl rfl)
theorem dX7_shareOf_27 : decode cX7_shareOf 27 = .ok (.ireturn, 1) := dk_172 (dk_at dksX7_shareOf_1 3 rfl rfl)
theorem dX7_shareOf_28 : decode cX7_shareOf 28 = .ok (.sipush 27720, 3) := dk_17 108 72 (dk_at dksX7_shareOf_1 4 rfl rfl)
theorem dX7_shareOf_31 : decode cX7_shareOf 31 = .ok (.istore 4, 2) := dk_54 4 (dk_at dksX7_shareOf_1 7 rfl rfl)
theorem dX7_shareOf_33 : decode cX7_shareOf 33 = .ok (.iconst 0, 1) := dk_3 (dk_at dksX7_shareOf_1 9 rfl rfl)
theorem dX7_shareOf_34 : decode cX7_shareOf 34 = .ok (.istore 5, 2) := dk_54 5 (dk_at dksX7_shareOf_1 10 rfl rfl)
theorem dX7_shareOf_36 : decode cX7_shareOf 36 = .ok (.iload 5, 2) := dk_21 5 (dk_at dksX7_shareOf_1 12 rfl rfl)
theorem dX7_shareOf_38 : decode cX7_shareOf 38 = .ok (.aload_n 0, 1) := dk_42 (dk_at dksX7_shareOf_1 14 rfl rfl)
theorem dX7_shareOf_39 : decode cX7_shareOf 39 = .ok (.getfield 7, 3) := dk_180 0 7 (dk_at dksX7_shareOf_1 15 rfl rfl)
theorem dX7_shareOf_42 : decode cX7_shareOf 42 = .ok (.iload_n 1, 1) := dk_27 (dk_at dksX7_shareOf_1 18 rfl rfl)
theorem dX7_shareOf_43 : decode cX7_shareOf 43 = .ok (.iaload, 1) := dk_46 (dk_at dksX7_shareOf_1 19 rfl rfl)
theorem dX7_shareOf_44 : decode cX7_shareOf 44 = .ok (.iconst 1, 1) := dk_4 (dk_at dksX7_shareOf_1 20 rfl rfl)
theorem dX7_shareOf_45 : decode cX7_shareOf 45 = .ok (.isub, 1) := dk_100 (dk_at dksX7_shareOf_1 21 rfl rfl)
theorem dX7_shareOf_46 : decode cX7_shareOf 46 = .ok (.if_icmp .ge 30, 3) := dk_162 0 30 (dk_at dksX7_shareOf_2 0 rfl rfl)
theorem dX7_shareOf_49 : decode cX7_shareOf 49 = .ok (.iload 4, 2) := dk_21 4 (dk_at dksX7_shareOf_2 3 rfl rfl)
theorem dX7_shareOf_51 : decode cX7_shareOf 51 = .ok (.aload_n 0, 1) := dk_42 (dk_at dksX7_shareOf_2 5 rfl rfl)
theorem dX7_shareOf_52 : decode cX7_shareOf 52 = .ok (.getfield 16, 3) := dk_180 0 16 (dk_at dksX7_shareOf_2 6 rfl rfl)
theorem dX7_shareOf_55 : decode cX7_shareOf 55 = .ok (.bipush 9, 2) := dk_16 9 (dk_at dksX7_shareOf_2 9 rfl rfl)
theorem dX7_shareOf_57 : decode cX7_shareOf 57 = .ok (.iload_n 1, 1) := dk_27 (dk_at dksX7_shareOf_2 11 rfl rfl)
theorem dX7_shareOf_58 : decode cX7_shareOf 58 = .ok (.imul, 1) := dk_104 (dk_at dksX7_shareOf_2 12 rfl rfl)
theorem dX7_shareOf_59 : decode cX7_shareOf 59 = .ok (.iconst 3, 1) := dk_6 (dk_at dksX7_shareOf_2 13 rfl rfl)
theorem dX7_shareOf_60 : decode cX7_shareOf 60 = .ok (.iload_n 2, 1) := dk_28 (dk_at dksX7_shareOf_2 14 rfl rfl)
theorem dX7_shareOf_61 : decode cX7_shareOf 61 = .ok (.imul, 1) := dk_104 (dk_at dksX7_shareOf_2 15 rfl rfl)
theorem dX7_shareOf_62 : decode cX7_shareOf 62 = .ok (.iadd, 1) := dk_96 (dk_at dksX7_shareOf_2 16 rfl rfl)
theorem dX7_shareOf_63 : decode cX7_shareOf 63 = .ok (.iload 5, 2) := dk_21 5 (dk_at dksX7_shareOf_2 17 rfl rfl)
theorem dX7_shareOf_65 : decode cX7_shareOf 65 = .ok (.iadd, 1) := dk_96 (dk_at dksX7_shareOf_2 19 rfl rfl)
theorem dX7_shareOf_66 : decode cX7_shareOf 66 = .ok (.iaload, 1) := dk_46 (dk_at dksX7_shareOf_2 20 rfl rfl)
theorem dX7_shareOf_67 : decode cX7_shareOf 67 = .ok (.isub, 1) := dk_100 (dk_at dksX7_shareOf_2 21 rfl rfl)
theorem dX7_shareOf_68 : decode cX7_shareOf 68 = .ok (.istore 4, 2) := dk_54 4 (dk_at dksX7_shareOf_2 22 rfl rfl)
theorem dX7_shareOf_70 : decode cX7_shareOf 70 = .ok (.iinc 5 1, 3) := dk_132 5 1 (dk_at dksX7_shareOf_3 0 rfl rfl)
theorem dX7_shareOf_73 : decode cX7_shareOf 73 = .ok (.goto (-37), 3) := dk_167 255 219 (dk_at dksX7_shareOf_3 3 rfl rfl)
theorem dX7_shareOf_76 : decode cX7_shareOf 76 = .ok (.iload 4, 2) := dk_21 4 (dk_at dksX7_shareOf_3 6 rfl rfl)
theorem dX7_shareOf_78 : decode cX7_shareOf 78 = .ok (.ireturn, 1) := dk_172 (dk_at dksX7_shareOf_3 8 rfl rfl)
abbrev cX7_layOut : ByteArray := prog_42_method_16_code
def yX7_layOut : MethodName := ⟨RX7, "layOut", "(ZII)V"⟩
def dkwX7_layOut_13 : List UInt8 := [167, 255, 120, 177]
abbrev dktX7_layOut_13 : List UInt8 := dkwX7_layOut_13 ++ []
def dkwX7_layOut_12 : List UInt8 := [182, 0, 136, 132, 8, 1, 167, 255, 191, 132, 6, 1, 167, 255, 156, 132, 5, 1, 167, 255, 138, 132, 4, 1]
abbrev dktX7_layOut_12 : List UInt8 := dkwX7_layOut_12 ++ dktX7_layOut_13
def dkwX7_layOut_11 : List UInt8 := [21, 5, 96, 42, 21, 4, 21, 5, 21, 8, 182, 0, 129, 116, 42, 21, 4, 21, 8, 21, 6, 182, 0, 117]
abbrev dktX7_layOut_11 : List UInt8 := dkwX7_layOut_11 ++ dktX7_layOut_12
def dkwX7_layOut_10 : List UInt8 := [155, 0, 57, 42, 180, 0, 41, 42, 180, 0, 88, 21, 7, 104, 21, 8, 96, 42, 180, 0, 88, 21, 4, 104]
abbrev dktX7_layOut_10 : List UInt8 := dkwX7_layOut_10 ++ dktX7_layOut_11
def dkwX7_layOut_9 : List UInt8 := [21, 4, 104, 21, 6, 96, 46, 54, 7, 3, 54, 8, 21, 8, 42, 180, 0, 88, 162, 0, 62, 21, 7]
abbrev dktX7_layOut_9 : List UInt8 := dkwX7_layOut_9 ++ dktX7_layOut_10
def dkwX7_layOut_8 : List UInt8 := [162, 0, 115, 3, 54, 6, 21, 6, 42, 180, 0, 7, 21, 4, 46, 162, 0, 94, 42, 180, 0, 13, 6]
abbrev dktX7_layOut_8 : List UInt8 := dkwX7_layOut_8 ++ dktX7_layOut_9
def dkwX7_layOut_7 : List UInt8 := [167, 255, 111, 3, 54, 4, 21, 4, 42, 180, 0, 92, 162, 0, 133, 3, 54, 5, 21, 5, 42, 180, 0, 88]
abbrev dktX7_layOut_7 : List UInt8 := dkwX7_layOut_7 ++ dktX7_layOut_8
def dkwX7_layOut_6 : List UInt8 := [42, 180, 0, 92, 104, 182, 0, 140, 21, 7, 182, 0, 144, 132, 5, 1, 167, 255, 129, 132, 4, 1]
abbrev dktX7_layOut_6 : List UInt8 := dkwX7_layOut_6 ++ dktX7_layOut_7
def dkwX7_layOut_5 : List UInt8 := [180, 0, 92, 104, 17, 108, 72, 17, 108, 72, 182, 0, 136, 42, 42, 180, 0, 41, 21, 6, 42, 180, 0, 88]
abbrev dktX7_layOut_5 : List UInt8 := dkwX7_layOut_5 ++ dktX7_layOut_6
def dkwX7_layOut_4 : List UInt8 := [21, 5, 29, 160, 0, 7, 4, 167, 0, 4, 3, 54, 7, 42, 180, 0, 41, 21, 6, 42, 180, 0, 88, 42]
abbrev dktX7_layOut_4 : List UInt8 := dkwX7_layOut_4 ++ dktX7_layOut_5
def dkwX7_layOut_3 : List UInt8 := [153, 0, 18, 42, 180, 0, 25, 6, 21, 4, 104, 21, 5, 96, 46, 167, 0, 20, 21, 4, 28, 160, 0, 13]
abbrev dktX7_layOut_3 : List UInt8 := dkwX7_layOut_3 ++ dktX7_layOut_4
def dkwX7_layOut_2 : List UInt8 := [104, 21, 5, 96, 54, 6, 42, 180, 0, 41, 21, 6, 21, 6, 17, 108, 72, 17, 108, 72, 182, 0, 136, 27]
abbrev dktX7_layOut_2 : List UInt8 := dkwX7_layOut_2 ++ dktX7_layOut_3
def dkwX7_layOut_1 : List UInt8 := [180, 0, 92, 162, 0, 142, 3, 54, 5, 21, 5, 42, 180, 0, 88, 162, 0, 124, 42, 180, 0, 88, 21, 4]
abbrev dktX7_layOut_1 : List UInt8 := dkwX7_layOut_1 ++ dktX7_layOut_2
def dkwX7_layOut_0 : List UInt8 := [42, 180, 0, 41, 42, 180, 0, 88, 42, 180, 0, 92, 104, 182, 0, 132, 3, 54, 4, 21, 4, 42]
abbrev dktX7_layOut_0 : List UInt8 := dkwX7_layOut_0 ++ dktX7_layOut_1
theorem dksX7_layOut_0 : cX7_layOut.data.toList.drop 0 = dktX7_layOut_0 := by decide +kernel
theorem dksX7_layOut_1 : cX7_layOut.data.toList.drop 22 = dktX7_layOut_1 := dk_seg dksX7_layOut_0 22 rfl rfl
theorem dksX7_layOut_2 : cX7_layOut.data.toList.drop 46 = dktX7_layOut_2 := dk_seg dksX7_layOut_1 24 rfl rfl
theorem dksX7_layOut_3 : cX7_layOut.data.toList.drop 70 = dktX7_layOut_3 := dk_seg dksX7_layOut_2 24 rfl rfl
theorem dksX7_layOut_4 : cX7_layOut.data.toList.drop 94 = dktX7_layOut_4 := dk_seg dksX7_layOut_3 24 rfl rfl
theorem dksX7_layOut_5 : cX7_layOut.data.toList.drop 118 = dktX7_layOut_5 := dk_seg dksX7_layOut_4 24 rfl rfl
theorem dksX7_layOut_6 : cX7_layOut.data.toList.drop 142 = dktX7_layOut_6 := dk_seg dksX7_layOut_5 24 rfl rfl
theorem dksX7_layOut_7 : cX7_layOut.data.toList.drop 164 = dktX7_layOut_7 := dk_seg dksX7_layOut_6 22 rfl rfl
theorem dksX7_layOut_8 : cX7_layOut.data.toList.drop 188 = dktX7_layOut_8 := dk_seg dksX7_layOut_7 24 rfl rfl
theorem dksX7_layOut_9 : cX7_layOut.data.toList.drop 211 = dktX7_layOut_9 := dk_seg dksX7_layOut_8 23 rfl rfl
theorem dksX7_layOut_10 : cX7_layOut.data.toList.drop 234 = dktX7_layOut_10 := dk_seg dksX7_layOut_9 23 rfl rfl
theorem dksX7_layOut_11 : cX7_layOut.data.toList.drop 258 = dktX7_layOut_11 := dk_seg dksX7_layOut_10 24 rfl rfl
theorem dksX7_layOut_12 : cX7_layOut.data.toList.drop 282 = dktX7_layOut_12 := dk_seg dksX7_layOut_11 24 rfl rfl
theorem dksX7_layOut_13 : cX7_layOut.data.toList.drop 306 = dktX7_layOut_13 := dk_seg dksX7_layOut_12 24 rfl rfl
theorem dX7_layOut_0 : decode cX7_layOut 0 = .ok (.aload_n 0, 1) := dk_42 (dk_at dksX7_layOut_0 0 rfl rfl)
theorem dX7_layOut_1 : decode cX7_layOut 1 = .ok (.getfield 41, 3) := dk_180 0 41 (dk_at dksX7_layOut_0 1 rfl rfl)
theorem dX7_layOut_4 : decode cX7_layOut 4 = .ok (.aload_n 0, 1) := dk_42 (dk_at dksX7_layOut_0 4 rfl rfl)
theorem dX7_layOut_5 : decode cX7_layOut 5 = .ok (.getfield 88, 3) := dk_180 0 88 (dk_at dksX7_layOut_0 5 rfl rfl)
theorem dX7_layOut_8 : decode cX7_layOut 8 = .ok (.aload_n 0, 1) := dk_42 (dk_at dksX7_layOut_0 8 rfl rfl)
theorem dX7_layOut_9 : decode cX7_layOut 9 = .ok (.getfield 92, 3) := dk_180 0 92 (dk_at dksX7_layOut_0 9 rfl rfl)
theorem dX7_layOut_12 : decode cX7_layOut 12 = .ok (.imul, 1) := dk_104 (dk_at dksX7_layOut_0 12 rfl rfl)
theorem dX7_layOut_13 : decode cX7_layOut 13 = .ok (.invokevirtual 132, 3) := dk_182 0 132 (dk_at dksX7_layOut_0 13 rfl rfl)
theorem dX7_layOut_16 : decode cX7_layOut 16 = .ok (.iconst 0, 1) := dk_3 (dk_at dksX7_layOut_0 16 rfl rfl)
theorem dX7_layOut_17 : decode cX7_layOut 17 = .ok (.istore 4, 2) := dk_54 4 (dk_at dksX7_layOut_0 17 rfl rfl)
theorem dX7_layOut_19 : decode cX7_layOut 19 = .ok (.iload 4, 2) := dk_21 4 (dk_at dksX7_layOut_0 19 rfl rfl)
theorem dX7_layOut_21 : decode cX7_layOut 21 = .ok (.aload_n 0, 1) := dk_42 (dk_at dksX7_layOut_0 21 rfl rfl)
theorem dX7_layOut_22 : decode cX7_layOut 22 = .ok (.getfield 92, 3) := dk_180 0 92 (dk_at dksX7_layOut_1 0 rfl rfl)
theorem dX7_layOut_25 : decode cX7_layOut 25 = .ok (.if_icmp .ge 142, 3) := dk_162 0 142 (dk_at dksX7_layOut_1 3 rfl rfl)
theorem dX7_layOut_28 : decode cX7_layOut 28 = .ok (.iconst 0, 1) := dk_3 (dk_at dksX7_layOut_1 6 rfl rfl)
theorem dX7_layOut_29 : decode cX7_layOut 29 = .ok (.istore 5, 2) := dk_54 5 (dk_at dksX7_layOut_1 7 rfl rfl)
theorem dX7_layOut_31 : decode cX7_layOut 31 = .ok (.iload 5, 2) := dk_21 5 (dk_at dksX7_layOut_1 9 rfl rfl)
theorem dX7_layOut_33 : decode cX7_layOut 33 = .ok (.aload_n 0, 1) := dk_42 (dk_at dksX7_layOut_1 11 rfl rfl)
theorem dX7_layOut_34 : decode cX7_layOut 34 = .ok (.getfield 88, 3) := dk_180 0 88 (dk_at dksX7_layOut_1 12 rfl rfl)
theorem dX7_layOut_37 : decode cX7_layOut 37 = .ok (.if_icmp .ge 124, 3) := dk_162 0 124 (dk_at dksX7_layOut_1 15 rfl rfl)
theorem dX7_layOut_40 : decode cX7_layOut 40 = .ok (.aload_n 0, 1) := dk_42 (dk_at dksX7_layOut_1 18 rfl rfl)
theorem dX7_layOut_41 : decode cX7_layOut 41 = .ok (.getfield 88, 3) := dk_180 0 88 (dk_at dksX7_layOut_1 19 rfl rfl)
theorem dX7_layOut_44 : decode cX7_layOut 44 = .ok (.iload 4, 2) := dk_21 4 (dk_at dksX7_layOut_1 22 rfl rfl)
theorem dX7_layOut_46 : decode cX7_layOut 46 = .ok (.imul, 1) := dk_104 (dk_at dksX7_layOut_2 0 rfl rfl)
theorem dX7_layOut_47 : decode cX7_layOut 47 = .ok (.iload 5, 2) := dk_21 5 (dk_at dksX7_layOut_2 1 rfl rfl)
theorem dX7_layOut_49 : decode cX7_layOut 49 = .ok (.iadd, 1) := dk_96 (dk_at dksX7_layOut_2 3 rfl rfl)
theorem dX7_layOut_50 : decode cX7_layOut 50 = .ok (.istore 6, 2) := dk_54 6 (dk_at dksX7_layOut_2 4 rfl rfl)
theorem dX7_layOut_52 : decode cX7_layOut 52 = .ok (.aload_n 0, 1) := dk_42 (dk_at dksX7_layOut_2 6 rfl rfl)
theorem dX7_layOut_53 : decode cX7_layOut 53 = .ok (.getfield 41, 3) := dk_180 0 41 (dk_at dksX7_layOut_2 7 rfl rfl)
theorem dX7_layOut_56 : decode cX7_layOut 56 = .ok (.iload 6, 2) := dk_21 6 (dk_at dksX7_layOut_2 10 rfl rfl)
theorem dX7_layOut_58 : decode cX7_layOut 58 = .ok (.iload 6, 2) := dk_21 6 (dk_at dksX7_layOut_2 12 rfl rfl)
theorem dX7_layOut_60 : decode cX7_layOut 60 = .ok (.sipush 27720, 3) := dk_17 108 72 (dk_at dksX7_layOut_2 14 rfl rfl)
theorem dX7_layOut_63 : decode cX7_layOut 63 = .ok (.sipush 27720, 3) := dk_17 108 72 (dk_at dksX7_layOut_2 17 rfl rfl)
theorem dX7_layOut_66 : decode cX7_layOut 66 = .ok (.invokevirtual 136, 3) := dk_182 0 136 (dk_at dksX7_layOut_2 20 rfl rfl)
theorem dX7_layOut_69 : decode cX7_layOut 69 = .ok (.iload_n 1, 1) := dk_27 (dk_at dksX7_layOut_2 23 rfl rfl)
theorem dX7_layOut_70 : decode cX7_layOut 70 = .ok (.ifCond .eq 18, 3) := dk_153 0 18 (dk_at dksX7_layOut_3 0 rfl rfl)
theorem dX7_layOut_73 : decode cX7_layOut 73 = .ok (.aload_n 0, 1) := dk_42 (dk_at dksX7_layOut_3 3 rfl rfl)
theorem dX7_layOut_74 : decode cX7_layOut 74 = .ok (.getfield 25, 3) := dk_180 0 25 (dk_at dksX7_layOut_3 4 rfl rfl)
theorem dX7_layOut_77 : decode cX7_layOut 77 = .ok (.iconst 3, 1) := dk_6 (dk_at dksX7_layOut_3 7 rfl rfl)
theorem dX7_layOut_78 : decode cX7_layOut 78 = .ok (.iload 4, 2) := dk_21 4 (dk_at dksX7_layOut_3 8 rfl rfl)
theorem dX7_layOut_80 : decode cX7_layOut 80 = .ok (.imul, 1) := dk_104 (dk_at dksX7_layOut_3 10 rfl rfl)
theorem dX7_layOut_81 : decode cX7_layOut 81 = .ok (.iload 5, 2) := dk_21 5 (dk_at dksX7_layOut_3 11 rfl rfl)
theorem dX7_layOut_83 : decode cX7_layOut 83 = .ok (.iadd, 1) := dk_96 (dk_at dksX7_layOut_3 13 rfl rfl)
theorem dX7_layOut_84 : decode cX7_layOut 84 = .ok (.iaload, 1) := dk_46 (dk_at dksX7_layOut_3 14 rfl rfl)
theorem dX7_layOut_85 : decode cX7_layOut 85 = .ok (.goto 20, 3) := dk_167 0 20 (dk_at dksX7_layOut_3 15 rfl rfl)
theorem dX7_layOut_88 : decode cX7_layOut 88 = .ok (.iload 4, 2) := dk_21 4 (dk_at dksX7_layOut_3 18 rfl rfl)
theorem dX7_layOut_90 : decode cX7_layOut 90 = .ok (.iload_n 2, 1) := dk_28 (dk_at dksX7_layOut_3 20 rfl rfl)
theorem dX7_layOut_91 : decode cX7_layOut 91 = .ok (.if_icmp .ne 13, 3) := dk_160 0 13 (dk_at dksX7_layOut_3 21 rfl rfl)
theorem dX7_layOut_94 : decode cX7_layOut 94 = .ok (.iload 5, 2) := dk_21 5 (dk_at dksX7_layOut_4 0 rfl rfl)
theorem dX7_layOut_96 : decode cX7_layOut 96 = .ok (.iload_n 3, 1) := dk_29 (dk_at dksX7_layOut_4 2 rfl rfl)
theorem dX7_layOut_97 : decode cX7_layOut 97 = .ok (.if_icmp .ne 7, 3) := dk_160 0 7 (dk_at dksX7_layOut_4 3 rfl rfl)
theorem dX7_layOut_100 : decode cX7_layOut 100 = .ok (.iconst 1, 1) := dk_4 (dk_at dksX7_layOut_4 6 rfl rfl)
theorem dX7_layOut_101 : decode cX7_layOut 101 = .ok (.goto 4, 3) := dk_167 0 4 (dk_at dksX7_layOut_4 7 rfl rfl)
theorem dX7_layOut_104 : decode cX7_layOut 104 = .ok (.iconst 0, 1) := dk_3 (dk_at dksX7_layOut_4 10 rfl rfl)
theorem dX7_layOut_105 : decode cX7_layOut 105 = .ok (.istore 7, 2) := dk_54 7 (dk_at dksX7_layOut_4 11 rfl rfl)
theorem dX7_layOut_107 : decode cX7_layOut 107 = .ok (.aload_n 0, 1) := dk_42 (dk_at dksX7_layOut_4 13 rfl rfl)
theorem dX7_layOut_108 : decode cX7_layOut 108 = .ok (.getfield 41, 3) := dk_180 0 41 (dk_at dksX7_layOut_4 14 rfl rfl)
theorem dX7_layOut_111 : decode cX7_layOut 111 = .ok (.iload 6, 2) := dk_21 6 (dk_at dksX7_layOut_4 17 rfl rfl)
theorem dX7_layOut_113 : decode cX7_layOut 113 = .ok (.aload_n 0, 1) := dk_42 (dk_at dksX7_layOut_4 19 rfl rfl)
theorem dX7_layOut_114 : decode cX7_layOut 114 = .ok (.getfield 88, 3) := dk_180 0 88 (dk_at dksX7_layOut_4 20 rfl rfl)
theorem dX7_layOut_117 : decode cX7_layOut 117 = .ok (.aload_n 0, 1) := dk_42 (dk_at dksX7_layOut_4 23 rfl rfl)
theorem dX7_layOut_118 : decode cX7_layOut 118 = .ok (.getfield 92, 3) := dk_180 0 92 (dk_at dksX7_layOut_5 0 rfl rfl)
theorem dX7_layOut_121 : decode cX7_layOut 121 = .ok (.imul, 1) := dk_104 (dk_at dksX7_layOut_5 3 rfl rfl)
theorem dX7_layOut_122 : decode cX7_layOut 122 = .ok (.sipush 27720, 3) := dk_17 108 72 (dk_at dksX7_layOut_5 4 rfl rfl)
theorem dX7_layOut_125 : decode cX7_layOut 125 = .ok (.sipush 27720, 3) := dk_17 108 72 (dk_at dksX7_layOut_5 7 rfl rfl)
theorem dX7_layOut_128 : decode cX7_layOut 128 = .ok (.invokevirtual 136, 3) := dk_182 0 136 (dk_at dksX7_layOut_5 10 rfl rfl)
theorem dX7_layOut_131 : decode cX7_layOut 131 = .ok (.aload_n 0, 1) := dk_42 (dk_at dksX7_layOut_5 13 rfl rfl)
theorem dX7_layOut_132 : decode cX7_layOut 132 = .ok (.aload_n 0, 1) := dk_42 (dk_at dksX7_layOut_5 14 rfl rfl)
theorem dX7_layOut_133 : decode cX7_layOut 133 = .ok (.getfield 41, 3) := dk_180 0 41 (dk_at dksX7_layOut_5 15 rfl rfl)
theorem dX7_layOut_136 : decode cX7_layOut 136 = .ok (.iload 6, 2) := dk_21 6 (dk_at dksX7_layOut_5 18 rfl rfl)
theorem dX7_layOut_138 : decode cX7_layOut 138 = .ok (.aload_n 0, 1) := dk_42 (dk_at dksX7_layOut_5 20 rfl rfl)
theorem dX7_layOut_139 : decode cX7_layOut 139 = .ok (.getfield 88, 3) := dk_180 0 88 (dk_at dksX7_layOut_5 21 rfl rfl)
theorem dX7_layOut_142 : decode cX7_layOut 142 = .ok (.aload_n 0, 1) := dk_42 (dk_at dksX7_layOut_6 0 rfl rfl)
theorem dX7_layOut_143 : decode cX7_layOut 143 = .ok (.getfield 92, 3) := dk_180 0 92 (dk_at dksX7_layOut_6 1 rfl rfl)
theorem dX7_layOut_146 : decode cX7_layOut 146 = .ok (.imul, 1) := dk_104 (dk_at dksX7_layOut_6 4 rfl rfl)
theorem dX7_layOut_147 : decode cX7_layOut 147 = .ok (.invokevirtual 140, 3) := dk_182 0 140 (dk_at dksX7_layOut_6 5 rfl rfl)
theorem dX7_layOut_150 : decode cX7_layOut 150 = .ok (.iload 7, 2) := dk_21 7 (dk_at dksX7_layOut_6 8 rfl rfl)
theorem dX7_layOut_152 : decode cX7_layOut 152 = .ok (.invokevirtual 144, 3) := dk_182 0 144 (dk_at dksX7_layOut_6 10 rfl rfl)
theorem dX7_layOut_155 : decode cX7_layOut 155 = .ok (.iinc 5 1, 3) := dk_132 5 1 (dk_at dksX7_layOut_6 13 rfl rfl)
theorem dX7_layOut_158 : decode cX7_layOut 158 = .ok (.goto (-127), 3) := dk_167 255 129 (dk_at dksX7_layOut_6 16 rfl rfl)
theorem dX7_layOut_161 : decode cX7_layOut 161 = .ok (.iinc 4 1, 3) := dk_132 4 1 (dk_at dksX7_layOut_6 19 rfl rfl)
theorem dX7_layOut_164 : decode cX7_layOut 164 = .ok (.goto (-145), 3) := dk_167 255 111 (dk_at dksX7_layOut_7 0 rfl rfl)
theorem dX7_layOut_167 : decode cX7_layOut 167 = .ok (.iconst 0, 1) := dk_3 (dk_at dksX7_layOut_7 3 rfl rfl)
theorem dX7_layOut_168 : decode cX7_layOut 168 = .ok (.istore 4, 2) := dk_54 4 (dk_at dksX7_layOut_7 4 rfl rfl)
theorem dX7_layOut_170 : decode cX7_layOut 170 = .ok (.iload 4, 2) := dk_21 4 (dk_at dksX7_layOut_7 6 rfl rfl)
theorem dX7_layOut_172 : decode cX7_layOut 172 = .ok (.aload_n 0, 1) := dk_42 (dk_at dksX7_layOut_7 8 rfl rfl)
theorem dX7_layOut_173 : decode cX7_layOut 173 = .ok (.getfield 92, 3) := dk_180 0 92 (dk_at dksX7_layOut_7 9 rfl rfl)
theorem dX7_layOut_176 : decode cX7_layOut 176 = .ok (.if_icmp .ge 133, 3) := dk_162 0 133 (dk_at dksX7_layOut_7 12 rfl rfl)
theorem dX7_layOut_179 : decode cX7_layOut 179 = .ok (.iconst 0, 1) := dk_3 (dk_at dksX7_layOut_7 15 rfl rfl)
theorem dX7_layOut_180 : decode cX7_layOut 180 = .ok (.istore 5, 2) := dk_54 5 (dk_at dksX7_layOut_7 16 rfl rfl)
theorem dX7_layOut_182 : decode cX7_layOut 182 = .ok (.iload 5, 2) := dk_21 5 (dk_at dksX7_layOut_7 18 rfl rfl)
theorem dX7_layOut_184 : decode cX7_layOut 184 = .ok (.aload_n 0, 1) := dk_42 (dk_at dksX7_layOut_7 20 rfl rfl)
theorem dX7_layOut_185 : decode cX7_layOut 185 = .ok (.getfield 88, 3) := dk_180 0 88 (dk_at dksX7_layOut_7 21 rfl rfl)
theorem dX7_layOut_188 : decode cX7_layOut 188 = .ok (.if_icmp .ge 115, 3) := dk_162 0 115 (dk_at dksX7_layOut_8 0 rfl rfl)
theorem dX7_layOut_191 : decode cX7_layOut 191 = .ok (.iconst 0, 1) := dk_3 (dk_at dksX7_layOut_8 3 rfl rfl)
theorem dX7_layOut_192 : decode cX7_layOut 192 = .ok (.istore 6, 2) := dk_54 6 (dk_at dksX7_layOut_8 4 rfl rfl)
theorem dX7_layOut_194 : decode cX7_layOut 194 = .ok (.iload 6, 2) := dk_21 6 (dk_at dksX7_layOut_8 6 rfl rfl)
theorem dX7_layOut_196 : decode cX7_layOut 196 = .ok (.aload_n 0, 1) := dk_42 (dk_at dksX7_layOut_8 8 rfl rfl)
theorem dX7_layOut_197 : decode cX7_layOut 197 = .ok (.getfield 7, 3) := dk_180 0 7 (dk_at dksX7_layOut_8 9 rfl rfl)
theorem dX7_layOut_200 : decode cX7_layOut 200 = .ok (.iload 4, 2) := dk_21 4 (dk_at dksX7_layOut_8 12 rfl rfl)
theorem dX7_layOut_202 : decode cX7_layOut 202 = .ok (.iaload, 1) := dk_46 (dk_at dksX7_layOut_8 14 rfl rfl)
theorem dX7_layOut_203 : decode cX7_layOut 203 = .ok (.if_icmp .ge 94, 3) := dk_162 0 94 (dk_at dksX7_layOut_8 15 rfl rfl)
theorem dX7_layOut_206 : decode cX7_layOut 206 = .ok (.aload_n 0, 1) := dk_42 (dk_at dksX7_layOut_8 18 rfl rfl)
theorem dX7_layOut_207 : decode cX7_layOut 207 = .ok (.getfield 13, 3) := dk_180 0 13 (dk_at dksX7_layOut_8 19 rfl rfl)
theorem dX7_layOut_210 : decode cX7_layOut 210 = .ok (.iconst 3, 1) := dk_6 (dk_at dksX7_layOut_8 22 rfl rfl)
theorem dX7_layOut_211 : decode cX7_layOut 211 = .ok (.iload 4, 2) := dk_21 4 (dk_at dksX7_layOut_9 0 rfl rfl)
theorem dX7_layOut_213 : decode cX7_layOut 213 = .ok (.imul, 1) := dk_104 (dk_at dksX7_layOut_9 2 rfl rfl)
theorem dX7_layOut_214 : decode cX7_layOut 214 = .ok (.iload 6, 2) := dk_21 6 (dk_at dksX7_layOut_9 3 rfl rfl)
theorem dX7_layOut_216 : decode cX7_layOut 216 = .ok (.iadd, 1) := dk_96 (dk_at dksX7_layOut_9 5 rfl rfl)
theorem dX7_layOut_217 : decode cX7_layOut 217 = .ok (.iaload, 1) := dk_46 (dk_at dksX7_layOut_9 6 rfl rfl)
theorem dX7_layOut_218 : decode cX7_layOut 218 = .ok (.istore 7, 2) := dk_54 7 (dk_at dksX7_layOut_9 7 rfl rfl)
theorem dX7_layOut_220 : decode cX7_layOut 220 = .ok (.iconst 0, 1) := dk_3 (dk_at dksX7_layOut_9 9 rfl rfl)
theorem dX7_layOut_221 : decode cX7_layOut 221 = .ok (.istore 8, 2) := dk_54 8 (dk_at dksX7_layOut_9 10 rfl rfl)
theorem dX7_layOut_223 : decode cX7_layOut 223 = .ok (.iload 8, 2) := dk_21 8 (dk_at dksX7_layOut_9 12 rfl rfl)
theorem dX7_layOut_225 : decode cX7_layOut 225 = .ok (.aload_n 0, 1) := dk_42 (dk_at dksX7_layOut_9 14 rfl rfl)
theorem dX7_layOut_226 : decode cX7_layOut 226 = .ok (.getfield 88, 3) := dk_180 0 88 (dk_at dksX7_layOut_9 15 rfl rfl)
theorem dX7_layOut_229 : decode cX7_layOut 229 = .ok (.if_icmp .ge 62, 3) := dk_162 0 62 (dk_at dksX7_layOut_9 18 rfl rfl)
theorem dX7_layOut_232 : decode cX7_layOut 232 = .ok (.iload 7, 2) := dk_21 7 (dk_at dksX7_layOut_9 21 rfl rfl)
theorem dX7_layOut_234 : decode cX7_layOut 234 = .ok (.ifCond .lt 57, 3) := dk_155 0 57 (dk_at dksX7_layOut_10 0 rfl rfl)
theorem dX7_layOut_237 : decode cX7_layOut 237 = .ok (.aload_n 0, 1) := dk_42 (dk_at dksX7_layOut_10 3 rfl rfl)
theorem dX7_layOut_238 : decode cX7_layOut 238 = .ok (.getfield 41, 3) := dk_180 0 41 (dk_at dksX7_layOut_10 4 rfl rfl)
theorem dX7_layOut_241 : decode cX7_layOut 241 = .ok (.aload_n 0, 1) := dk_42 (dk_at dksX7_layOut_10 7 rfl rfl)
theorem dX7_layOut_242 : decode cX7_layOut 242 = .ok (.getfield 88, 3) := dk_180 0 88 (dk_at dksX7_layOut_10 8 rfl rfl)
theorem dX7_layOut_245 : decode cX7_layOut 245 = .ok (.iload 7, 2) := dk_21 7 (dk_at dksX7_layOut_10 11 rfl rfl)
theorem dX7_layOut_247 : decode cX7_layOut 247 = .ok (.imul, 1) := dk_104 (dk_at dksX7_layOut_10 13 rfl rfl)
theorem dX7_layOut_248 : decode cX7_layOut 248 = .ok (.iload 8, 2) := dk_21 8 (dk_at dksX7_layOut_10 14 rfl rfl)
theorem dX7_layOut_250 : decode cX7_layOut 250 = .ok (.iadd, 1) := dk_96 (dk_at dksX7_layOut_10 16 rfl rfl)
theorem dX7_layOut_251 : decode cX7_layOut 251 = .ok (.aload_n 0, 1) := dk_42 (dk_at dksX7_layOut_10 17 rfl rfl)
theorem dX7_layOut_252 : decode cX7_layOut 252 = .ok (.getfield 88, 3) := dk_180 0 88 (dk_at dksX7_layOut_10 18 rfl rfl)
theorem dX7_layOut_255 : decode cX7_layOut 255 = .ok (.iload 4, 2) := dk_21 4 (dk_at dksX7_layOut_10 21 rfl rfl)
theorem dX7_layOut_257 : decode cX7_layOut 257 = .ok (.imul, 1) := dk_104 (dk_at dksX7_layOut_10 23 rfl rfl)
theorem dX7_layOut_258 : decode cX7_layOut 258 = .ok (.iload 5, 2) := dk_21 5 (dk_at dksX7_layOut_11 0 rfl rfl)
theorem dX7_layOut_260 : decode cX7_layOut 260 = .ok (.iadd, 1) := dk_96 (dk_at dksX7_layOut_11 2 rfl rfl)
theorem dX7_layOut_261 : decode cX7_layOut 261 = .ok (.aload_n 0, 1) := dk_42 (dk_at dksX7_layOut_11 3 rfl rfl)
theorem dX7_layOut_262 : decode cX7_layOut 262 = .ok (.iload 4, 2) := dk_21 4 (dk_at dksX7_layOut_11 4 rfl rfl)
theorem dX7_layOut_264 : decode cX7_layOut 264 = .ok (.iload 5, 2) := dk_21 5 (dk_at dksX7_layOut_11 6 rfl rfl)
theorem dX7_layOut_266 : decode cX7_layOut 266 = .ok (.iload 8, 2) := dk_21 8 (dk_at dksX7_layOut_11 8 rfl rfl)
theorem dX7_layOut_268 : decode cX7_layOut 268 = .ok (.invokevirtual 129, 3) := dk_182 0 129 (dk_at dksX7_layOut_11 10 rfl rfl)
theorem dX7_layOut_271 : decode cX7_layOut 271 = .ok (.ineg, 1) := dk_116 (dk_at dksX7_layOut_11 13 rfl rfl)
theorem dX7_layOut_272 : decode cX7_layOut 272 = .ok (.aload_n 0, 1) := dk_42 (dk_at dksX7_layOut_11 14 rfl rfl)
theorem dX7_layOut_273 : decode cX7_layOut 273 = .ok (.iload 4, 2) := dk_21 4 (dk_at dksX7_layOut_11 15 rfl rfl)
theorem dX7_layOut_275 : decode cX7_layOut 275 = .ok (.iload 8, 2) := dk_21 8 (dk_at dksX7_layOut_11 17 rfl rfl)
theorem dX7_layOut_277 : decode cX7_layOut 277 = .ok (.iload 6, 2) := dk_21 6 (dk_at dksX7_layOut_11 19 rfl rfl)
theorem dX7_layOut_279 : decode cX7_layOut 279 = .ok (.invokevirtual 117, 3) := dk_182 0 117 (dk_at dksX7_layOut_11 21 rfl rfl)
theorem dX7_layOut_282 : decode cX7_layOut 282 = .ok (.invokevirtual 136, 3) := dk_182 0 136 (dk_at dksX7_layOut_12 0 rfl rfl)
theorem dX7_layOut_285 : decode cX7_layOut 285 = .ok (.iinc 8 1, 3) := dk_132 8 1 (dk_at dksX7_layOut_12 3 rfl rfl)
theorem dX7_layOut_288 : decode cX7_layOut 288 = .ok (.goto (-65), 3) := dk_167 255 191 (dk_at dksX7_layOut_12 6 rfl rfl)
theorem dX7_layOut_291 : decode cX7_layOut 291 = .ok (.iinc 6 1, 3) := dk_132 6 1 (dk_at dksX7_layOut_12 9 rfl rfl)
theorem dX7_layOut_294 : decode cX7_layOut 294 = .ok (.goto (-100), 3) := dk_167 255 156 (dk_at dksX7_layOut_12 12 rfl rfl)
theorem dX7_layOut_297 : decode cX7_layOut 297 = .ok (.iinc 5 1, 3) := dk_132 5 1 (dk_at dksX7_layOut_12 15 rfl rfl)
theorem dX7_layOut_300 : decode cX7_layOut 300 = .ok (.goto (-118), 3) := dk_167 255 138 (dk_at dksX7_layOut_12 18 rfl rfl)
theorem dX7_layOut_303 : decode cX7_layOut 303 = .ok (.iinc 4 1, 3) := dk_132 4 1 (dk_at dksX7_layOut_12 21 rfl rfl)
theorem dX7_layOut_306 : decode cX7_layOut 306 = .ok (.goto (-136), 3) := dk_167 255 120 (dk_at dksX7_layOut_13 0 rfl rfl)
theorem dX7_layOut_309 : decode cX7_layOut 309 = .ok (.return_, 1) := dk_177 (dk_at dksX7_layOut_13 3 rfl rfl)
abbrev cX7_scale : ByteArray := prog_42_method_17_code
def yX7_scale : MethodName := ⟨RX7, "scale", "(LWasteHouse$ShareSolve$Whole;I)V"⟩
def dkwX7_scale_1 : List UInt8 := [180, 0, 63, 182, 0, 155, 177]
abbrev dktX7_scale_1 : List UInt8 := dkwX7_scale_1 ++ []
def dkwX7_scale_0 : List UInt8 := [42, 180, 0, 59, 28, 182, 0, 148, 43, 42, 180, 0, 59, 42, 180, 0, 63, 184, 0, 151, 43, 42]
abbrev dktX7_scale_0 : List UInt8 := dkwX7_scale_0 ++ dktX7_scale_1
theorem dksX7_scale_0 : cX7_scale.data.toList.drop 0 = dktX7_scale_0 := by decide +kernel
theorem dksX7_scale_1 : cX7_scale.data.toList.drop 22 = dktX7_scale_1 := dk_seg dksX7_scale_0 22 rfl rfl
theorem dX7_scale_0 : decode cX7_scale 0 = .ok (.aload_n 0, 1) := dk_42 (dk_at dksX7_scale_0 0 rfl rfl)
theorem dX7_scale_1 : decode cX7_scale 1 = .ok (.getfield 59, 3) := dk_180 0 59 (dk_at dksX7_scale_0 1 rfl rfl)
theorem dX7_scale_4 : decode cX7_scale 4 = .ok (.iload_n 2, 1) := dk_28 (dk_at dksX7_scale_0 4 rfl rfl)
theorem dX7_scale_5 : decode cX7_scale 5 = .ok (.invokevirtual 148, 3) := dk_182 0 148 (dk_at dksX7_scale_0 5 rfl rfl)
theorem dX7_scale_8 : decode cX7_scale 8 = .ok (.aload_n 1, 1) := dk_43 (dk_at dksX7_scale_0 8 rfl rfl)
theorem dX7_scale_9 : decode cX7_scale 9 = .ok (.aload_n 0, 1) := dk_42 (dk_at dksX7_scale_0 9 rfl rfl)
theorem dX7_scale_10 : decode cX7_scale 10 = .ok (.getfield 59, 3) := dk_180 0 59 (dk_at dksX7_scale_0 10 rfl rfl)
theorem dX7_scale_13 : decode cX7_scale 13 = .ok (.aload_n 0, 1) := dk_42 (dk_at dksX7_scale_0 13 rfl rfl)
theorem dX7_scale_14 : decode cX7_scale 14 = .ok (.getfield 63, 3) := dk_180 0 63 (dk_at dksX7_scale_0 14 rfl rfl)
theorem dX7_scale_17 : decode cX7_scale 17 = .ok (.invokestatic 151, 3) := dk_184 0 151 (dk_at dksX7_scale_0 17 rfl rfl)
theorem dX7_scale_20 : decode cX7_scale 20 = .ok (.aload_n 1, 1) := dk_43 (dk_at dksX7_scale_0 20 rfl rfl)
theorem dX7_scale_21 : decode cX7_scale 21 = .ok (.aload_n 0, 1) := dk_42 (dk_at dksX7_scale_0 21 rfl rfl)
theorem dX7_scale_22 : decode cX7_scale 22 = .ok (.getfield 63, 3) := dk_180 0 63 (dk_at dksX7_scale_1 0 rfl rfl)
theorem dX7_scale_25 : decode cX7_scale 25 = .ok (.invokevirtual 155, 3) := dk_182 0 155 (dk_at dksX7_scale_1 3 rfl rfl)
theorem dX7_scale_28 : decode cX7_scale 28 = .ok (.return_, 1) := dk_177 (dk_at dksX7_scale_1 6 rfl rfl)
abbrev cX7_unknown : ByteArray := prog_42_method_18_code
def yX7_unknown : MethodName := ⟨RX7, "unknown", "(II)LWasteHouse$ShareSolve$Whole;"⟩
def dkwX7_unknown_1 : List UInt8 := [176]
abbrev dktX7_unknown_1 : List UInt8 := dkwX7_unknown_1 ++ []
def dkwX7_unknown_0 : List UInt8 := [42, 180, 0, 41, 42, 180, 0, 88, 27, 104, 28, 96, 42, 180, 0, 88, 42, 180, 0, 92, 104, 182, 0, 140]
abbrev dktX7_unknown_0 : List UInt8 := dkwX7_unknown_0 ++ dktX7_unknown_1
theorem dksX7_unknown_0 : cX7_unknown.data.toList.drop 0 = dktX7_unknown_0 := by decide +kernel
theorem dksX7_unknown_1 : cX7_unknown.data.toList.drop 24 = dktX7_unknown_1 := dk_seg dksX7_unknown_0 24 rfl rfl
theorem dX7_unknown_0 : decode cX7_unknown 0 = .ok (.aload_n 0, 1) := dk_42 (dk_at dksX7_unknown_0 0 rfl rfl)
theorem dX7_unknown_1 : decode cX7_unknown 1 = .ok (.getfield 41, 3) := dk_180 0 41 (dk_at dksX7_unknown_0 1 rfl rfl)
theorem dX7_unknown_4 : decode cX7_unknown 4 = .ok (.aload_n 0, 1) := dk_42 (dk_at dksX7_unknown_0 4 rfl rfl)
theorem dX7_unknown_5 : decode cX7_unknown 5 = .ok (.getfield 88, 3) := dk_180 0 88 (dk_at dksX7_unknown_0 5 rfl rfl)
theorem dX7_unknown_8 : decode cX7_unknown 8 = .ok (.iload_n 1, 1) := dk_27 (dk_at dksX7_unknown_0 8 rfl rfl)
theorem dX7_unknown_9 : decode cX7_unknown 9 = .ok (.imul, 1) := dk_104 (dk_at dksX7_unknown_0 9 rfl rfl)
theorem dX7_unknown_10 : decode cX7_unknown 10 = .ok (.iload_n 2, 1) := dk_28 (dk_at dksX7_unknown_0 10 rfl rfl)
theorem dX7_unknown_11 : decode cX7_unknown 11 = .ok (.iadd, 1) := dk_96 (dk_at dksX7_unknown_0 11 rfl rfl)
theorem dX7_unknown_12 : decode cX7_unknown 12 = .ok (.aload_n 0, 1) := dk_42 (dk_at dksX7_unknown_0 12 rfl rfl)
theorem dX7_unknown_13 : decode cX7_unknown 13 = .ok (.getfield 88, 3) := dk_180 0 88 (dk_at dksX7_unknown_0 13 rfl rfl)
theorem dX7_unknown_16 : decode cX7_unknown 16 = .ok (.aload_n 0, 1) := dk_42 (dk_at dksX7_unknown_0 16 rfl rfl)
theorem dX7_unknown_17 : decode cX7_unknown 17 = .ok (.getfield 92, 3) := dk_180 0 92 (dk_at dksX7_unknown_0 17 rfl rfl)
theorem dX7_unknown_20 : decode cX7_unknown 20 = .ok (.imul, 1) := dk_104 (dk_at dksX7_unknown_0 20 rfl rfl)
theorem dX7_unknown_21 : decode cX7_unknown 21 = .ok (.invokevirtual 140, 3) := dk_182 0 140 (dk_at dksX7_unknown_0 21 rfl rfl)
theorem dX7_unknown_24 : decode cX7_unknown 24 = .ok (.areturn, 1) := dk_176 (dk_at dksX7_unknown_1 0 rfl rfl)
abbrev cX7_gather : ByteArray := prog_42_method_20_code
def yX7_gather : MethodName := ⟨RX7, "gather", "(IILWasteHouse$ShareSolve$Amount;)V"⟩
def dkwX7_gather_9 : List UInt8 := [180, 0, 66, 42, 180, 0, 63, 182, 0, 187, 177]
abbrev dktX7_gather_9 : List UInt8 := dkwX7_gather_9 ++ []
def dkwX7_gather_8 : List UInt8 := [42, 180, 0, 63, 17, 108, 72, 182, 0, 194, 42, 42, 180, 0, 63, 17, 108, 72, 182, 0, 194, 45, 42]
abbrev dktX7_gather_8 : List UInt8 := dkwX7_gather_8 ++ dktX7_gather_9
def dkwX7_gather_7 : List UInt8 := [167, 255, 112, 132, 4, 1, 167, 255, 94, 42, 180, 0, 63, 42, 180, 0, 41, 182, 0, 183, 182, 0, 155, 42]
abbrev dktX7_gather_7 : List UInt8 := dkwX7_gather_7 ++ dktX7_gather_8
def dkwX7_gather_6 : List UInt8 := [3, 181, 0, 197, 42, 180, 0, 66, 42, 180, 0, 63, 184, 0, 203, 132, 6, 1, 167, 255, 133, 132, 5, 1]
abbrev dktX7_gather_6 : List UInt8 := dkwX7_gather_6 ++ dktX7_gather_7
def dkwX7_gather_5 : List UInt8 := [42, 180, 0, 63, 180, 0, 197, 154, 0, 17, 42, 180, 0, 63, 182, 0, 200, 154, 0, 7, 4, 167, 0, 4]
abbrev dktX7_gather_5 : List UInt8 := dkwX7_gather_5 ++ dktX7_gather_6
def dkwX7_gather_4 : List UInt8 := [182, 0, 194, 42, 42, 180, 0, 63, 42, 21, 4, 28, 21, 5, 182, 0, 117, 182, 0, 194, 42, 180, 0, 63]
abbrev dktX7_gather_4 : List UInt8 := dkwX7_gather_4 ++ dktX7_gather_5
def dkwX7_gather_3 : List UInt8 := [21, 4, 21, 6, 182, 0, 180, 182, 0, 155, 42, 42, 180, 0, 63, 42, 21, 4, 21, 6, 28, 182, 0, 129]
abbrev dktX7_gather_3 : List UInt8 := dkwX7_gather_3 ++ dktX7_gather_4
def dkwX7_gather_2 : List UInt8 := [42, 180, 0, 13, 6, 21, 4, 104, 21, 5, 96, 46, 16, 254, 27, 100, 160, 0, 101, 42, 180, 0, 63, 42]
abbrev dktX7_gather_2 : List UInt8 := dkwX7_gather_2 ++ dktX7_gather_3
def dkwX7_gather_1 : List UInt8 := [21, 5, 42, 180, 0, 7, 21, 4, 46, 162, 0, 138, 3, 54, 6, 21, 6, 42, 180, 0, 88, 162, 0, 120]
abbrev dktX7_gather_1 : List UInt8 := dkwX7_gather_1 ++ dktX7_gather_2
def dkwX7_gather_0 : List UInt8 := [42, 180, 0, 66, 3, 182, 0, 148, 3, 54, 4, 21, 4, 42, 180, 0, 92, 162, 0, 159, 3, 54, 5]
abbrev dktX7_gather_0 : List UInt8 := dkwX7_gather_0 ++ dktX7_gather_1
theorem dksX7_gather_0 : cX7_gather.data.toList.drop 0 = dktX7_gather_0 := by decide +kernel
theorem dksX7_gather_1 : cX7_gather.data.toList.drop 23 = dktX7_gather_1 := dk_seg dksX7_gather_0 23 rfl rfl
theorem dksX7_gather_2 : cX7_gather.data.toList.drop 47 = dktX7_gather_2 := dk_seg dksX7_gather_1 24 rfl rfl
theorem dksX7_gather_3 : cX7_gather.data.toList.drop 71 = dktX7_gather_3 := dk_seg dksX7_gather_2 24 rfl rfl
theorem dksX7_gather_4 : cX7_gather.data.toList.drop 95 = dktX7_gather_4 := dk_seg dksX7_gather_3 24 rfl rfl
theorem dksX7_gather_5 : cX7_gather.data.toList.drop 119 = dktX7_gather_5 := dk_seg dksX7_gather_4 24 rfl rfl
theorem dksX7_gather_6 : cX7_gather.data.toList.drop 143 = dktX7_gather_6 := dk_seg dksX7_gather_5 24 rfl rfl
theorem dksX7_gather_7 : cX7_gather.data.toList.drop 167 = dktX7_gather_7 := dk_seg dksX7_gather_6 24 rfl rfl
theorem dksX7_gather_8 : cX7_gather.data.toList.drop 191 = dktX7_gather_8 := dk_seg dksX7_gather_7 24 rfl rfl
theorem dksX7_gather_9 : cX7_gather.data.toList.drop 214 = dktX7_gather_9 := dk_seg dksX7_gather_8 23 rfl rfl
theorem dX7_gather_0 : decode cX7_gather 0 = .ok (.aload_n 0, 1) := dk_42 (dk_at dksX7_gather_0 0 rfl rfl)
theorem dX7_gather_1 : decode cX7_gather 1 = .ok (.getfield 66, 3) := dk_180 0 66 (dk_at dksX7_gather_0 1 rfl rfl)
theorem dX7_gather_4 : decode cX7_gather 4 = .ok (.iconst 0, 1) := dk_3 (dk_at dksX7_gather_0 4 rfl rfl)
theorem dX7_gather_5 : decode cX7_gather 5 = .ok (.invokevirtual 148, 3) := dk_182 0 148 (dk_at dksX7_gather_0 5 rfl rfl)
theorem dX7_gather_8 : decode cX7_gather 8 = .ok (.iconst 0, 1) := dk_3 (dk_at dksX7_gather_0 8 rfl rfl)
theorem dX7_gather_9 : decode cX7_gather 9 = .ok (.istore 4, 2) := dk_54 4 (dk_at dksX7_gather_0 9 rfl rfl)
theorem dX7_gather_11 : decode cX7_gather 11 = .ok (.iload 4, 2) := dk_21 4 (dk_at dksX7_gather_0 11 rfl rfl)
theorem dX7_gather_13 : decode cX7_gather 13 = .ok (.aload_n 0, 1) := dk_42 (dk_at dksX7_gather_0 13 rfl rfl)
theorem dX7_gather_14 : decode cX7_gather 14 = .ok (.getfield 92, 3) := dk_180 0 92 (dk_at dksX7_gather_0 14 rfl rfl)
theorem dX7_gather_17 : decode cX7_gather 17 = .ok (.if_icmp .ge 159, 3) := dk_162 0 159 (dk_at dksX7_gather_0 17 rfl rfl)
theorem dX7_gather_20 : decode cX7_gather 20 = .ok (.iconst 0, 1) := dk_3 (dk_at dksX7_gather_0 20 rfl rfl)
theorem dX7_gather_21 : decode cX7_gather 21 = .ok (.istore 5, 2) := dk_54 5 (dk_at dksX7_gather_0 21 rfl rfl)
theorem dX7_gather_23 : decode cX7_gather 23 = .ok (.iload 5, 2) := dk_21 5 (dk_at dksX7_gather_1 0 rfl rfl)
theorem dX7_gather_25 : decode cX7_gather 25 = .ok (.aload_n 0, 1) := dk_42 (dk_at dksX7_gather_1 2 rfl rfl)
theorem dX7_gather_26 : decode cX7_gather 26 = .ok (.getfield 7, 3) := dk_180 0 7 (dk_at dksX7_gather_1 3 rfl rfl)
theorem dX7_gather_29 : decode cX7_gather 29 = .ok (.iload 4, 2) := dk_21 4 (dk_at dksX7_gather_1 6 rfl rfl)
theorem dX7_gather_31 : decode cX7_gather 31 = .ok (.iaload, 1) := dk_46 (dk_at dksX7_gather_1 8 rfl rfl)
theorem dX7_gather_32 : decode cX7_gather 32 = .ok (.if_icmp .ge 138, 3) := dk_162 0 138 (dk_at dksX7_gather_1 9 rfl rfl)
theorem dX7_gather_35 : decode cX7_gather 35 = .ok (.iconst 0, 1) := dk_3 (dk_at dksX7_gather_1 12 rfl rfl)
theorem dX7_gather_36 : decode cX7_gather 36 = .ok (.istore 6, 2) := dk_54 6 (dk_at dksX7_gather_1 13 rfl rfl)
theorem dX7_gather_38 : decode cX7_gather 38 = .ok (.iload 6, 2) := dk_21 6 (dk_at dksX7_gather_1 15 rfl rfl)
theorem dX7_gather_40 : decode cX7_gather 40 = .ok (.aload_n 0, 1) := dk_42 (dk_at dksX7_gather_1 17 rfl rfl)
theorem dX7_gather_41 : decode cX7_gather 41 = .ok (.getfield 88, 3) := dk_180 0 88 (dk_at dksX7_gather_1 18 rfl rfl)
theorem dX7_gather_44 : decode cX7_gather 44 = .ok (.if_icmp .ge 120, 3) := dk_162 0 120 (dk_at dksX7_gather_1 21 rfl rfl)
theorem dX7_gather_47 : decode cX7_gather 47 = .ok (.aload_n 0, 1) := dk_42 (dk_at dksX7_gather_2 0 rfl rfl)
theorem dX7_gather_48 : decode cX7_gather 48 = .ok (.getfield 13, 3) := dk_180 0 13 (dk_at dksX7_gather_2 1 rfl rfl)
theorem dX7_gather_51 : decode cX7_gather 51 = .ok (.iconst 3, 1) := dk_6 (dk_at dksX7_gather_2 4 rfl rfl)
theorem dX7_gather_52 : decode cX7_gather 52 = .ok (.iload 4, 2) := dk_21 4 (dk_at dksX7_gather_2 5 rfl rfl)
theorem dX7_gather_54 : decode cX7_gather 54 = .ok (.imul, 1) := dk_104 (dk_at dksX7_gather_2 7 rfl rfl)
theorem dX7_gather_55 : decode cX7_gather 55 = .ok (.iload 5, 2) := dk_21 5 (dk_at dksX7_gather_2 8 rfl rfl)
theorem dX7_gather_57 : decode cX7_gather 57 = .ok (.iadd, 1) := dk_96 (dk_at dksX7_gather_2 10 rfl rfl)
theorem dX7_gather_58 : decode cX7_gather 58 = .ok (.iaload, 1) := dk_46 (dk_at dksX7_gather_2 11 rfl rfl)
theorem dX7_gather_59 : decode cX7_gather 59 = .ok (.bipush (-2), 2) := dk_16 254 (dk_at dksX7_gather_2 12 rfl rfl)
theorem dX7_gather_61 : decode cX7_gather 61 = .ok (.iload_n 1, 1) := dk_27 (dk_at dksX7_gather_2 14 rfl rfl)
theorem dX7_gather_62 : decode cX7_gather 62 = .ok (.isub, 1) := dk_100 (dk_at dksX7_gather_2 15 rfl rfl)
theorem dX7_gather_63 : decode cX7_gather 63 = .ok (.if_icmp .ne 101, 3) := dk_160 0 101 (dk_at dksX7_gather_2 16 rfl rfl)
theorem dX7_gather_66 : decode cX7_gather 66 = .ok (.aload_n 0, 1) := dk_42 (dk_at dksX7_gather_2 19 rfl rfl)
theorem dX7_gather_67 : decode cX7_gather 67 = .ok (.getfield 63, 3) := dk_180 0 63 (dk_at dksX7_gather_2 20 rfl rfl)
theorem dX7_gather_70 : decode cX7_gather 70 = .ok (.aload_n 0, 1) := dk_42 (dk_at dksX7_gather_2 23 rfl rfl)
theorem dX7_gather_71 : decode cX7_gather 71 = .ok (.iload 4, 2) := dk_21 4 (dk_at dksX7_gather_3 0 rfl rfl)
theorem dX7_gather_73 : decode cX7_gather 73 = .ok (.iload 6, 2) := dk_21 6 (dk_at dksX7_gather_3 2 rfl rfl)
theorem dX7_gather_75 : decode cX7_gather 75 = .ok (.invokevirtual 180, 3) := dk_182 0 180 (dk_at dksX7_gather_3 4 rfl rfl)
theorem dX7_gather_78 : decode cX7_gather 78 = .ok (.invokevirtual 155, 3) := dk_182 0 155 (dk_at dksX7_gather_3 7 rfl rfl)
theorem dX7_gather_81 : decode cX7_gather 81 = .ok (.aload_n 0, 1) := dk_42 (dk_at dksX7_gather_3 10 rfl rfl)
theorem dX7_gather_82 : decode cX7_gather 82 = .ok (.aload_n 0, 1) := dk_42 (dk_at dksX7_gather_3 11 rfl rfl)
theorem dX7_gather_83 : decode cX7_gather 83 = .ok (.getfield 63, 3) := dk_180 0 63 (dk_at dksX7_gather_3 12 rfl rfl)
theorem dX7_gather_86 : decode cX7_gather 86 = .ok (.aload_n 0, 1) := dk_42 (dk_at dksX7_gather_3 15 rfl rfl)
theorem dX7_gather_87 : decode cX7_gather 87 = .ok (.iload 4, 2) := dk_21 4 (dk_at dksX7_gather_3 16 rfl rfl)
theorem dX7_gather_89 : decode cX7_gather 89 = .ok (.iload 6, 2) := dk_21 6 (dk_at dksX7_gather_3 18 rfl rfl)
theorem dX7_gather_91 : decode cX7_gather 91 = .ok (.iload_n 2, 1) := dk_28 (dk_at dksX7_gather_3 20 rfl rfl)
theorem dX7_gather_92 : decode cX7_gather 92 = .ok (.invokevirtual 129, 3) := dk_182 0 129 (dk_at dksX7_gather_3 21 rfl rfl)
theorem dX7_gather_95 : decode cX7_gather 95 = .ok (.invokevirtual 194, 3) := dk_182 0 194 (dk_at dksX7_gather_4 0 rfl rfl)
theorem dX7_gather_98 : decode cX7_gather 98 = .ok (.aload_n 0, 1) := dk_42 (dk_at dksX7_gather_4 3 rfl rfl)
theorem dX7_gather_99 : decode cX7_gather 99 = .ok (.aload_n 0, 1) := dk_42 (dk_at dksX7_gather_4 4 rfl rfl)
theorem dX7_gather_100 : decode cX7_gather 100 = .ok (.getfield 63, 3) := dk_180 0 63 (dk_at dksX7_gather_4 5 rfl rfl)
theorem dX7_gather_103 : decode cX7_gather 103 = .ok (.aload_n 0, 1) := dk_42 (dk_at dksX7_gather_4 8 rfl rfl)
theorem dX7_gather_104 : decode cX7_gather 104 = .ok (.iload 4, 2) := dk_21 4 (dk_at dksX7_gather_4 9 rfl rfl)
theorem dX7_gather_106 : decode cX7_gather 106 = .ok (.iload_n 2, 1) := dk_28 (dk_at dksX7_gather_4 11 rfl rfl)
theorem dX7_gather_107 : decode cX7_gather 107 = .ok (.iload 5, 2) := dk_21 5 (dk_at dksX7_gather_4 12 rfl rfl)
theorem dX7_gather_109 : decode cX7_gather 109 = .ok (.invokevirtual 117, 3) := dk_182 0 117 (dk_at dksX7_gather_4 14 rfl rfl)
theorem dX7_gather_112 : decode cX7_gather 112 = .ok (.invokevirtual 194, 3) := dk_182 0 194 (dk_at dksX7_gather_4 17 rfl rfl)
theorem dX7_gather_115 : decode cX7_gather 115 = .ok (.aload_n 0, 1) := dk_42 (dk_at dksX7_gather_4 20 rfl rfl)
theorem dX7_gather_116 : decode cX7_gather 116 = .ok (.getfield 63, 3) := dk_180 0 63 (dk_at dksX7_gather_4 21 rfl rfl)
theorem dX7_gather_119 : decode cX7_gather 119 = .ok (.aload_n 0, 1) := dk_42 (dk_at dksX7_gather_5 0 rfl rfl)
theorem dX7_gather_120 : decode cX7_gather 120 = .ok (.getfield 63, 3) := dk_180 0 63 (dk_at dksX7_gather_5 1 rfl rfl)
theorem dX7_gather_123 : decode cX7_gather 123 = .ok (.getfield 197, 3) := dk_180 0 197 (dk_at dksX7_gather_5 4 rfl rfl)
theorem dX7_gather_126 : decode cX7_gather 126 = .ok (.ifCond .ne 17, 3) := dk_154 0 17 (dk_at dksX7_gather_5 7 rfl rfl)
theorem dX7_gather_129 : decode cX7_gather 129 = .ok (.aload_n 0, 1) := dk_42 (dk_at dksX7_gather_5 10 rfl rfl)
theorem dX7_gather_130 : decode cX7_gather 130 = .ok (.getfield 63, 3) := dk_180 0 63 (dk_at dksX7_gather_5 11 rfl rfl)
theorem dX7_gather_133 : decode cX7_gather 133 = .ok (.invokevirtual 200, 3) := dk_182 0 200 (dk_at dksX7_gather_5 14 rfl rfl)
theorem dX7_gather_136 : decode cX7_gather 136 = .ok (.ifCond .ne 7, 3) := dk_154 0 7 (dk_at dksX7_gather_5 17 rfl rfl)
theorem dX7_gather_139 : decode cX7_gather 139 = .ok (.iconst 1, 1) := dk_4 (dk_at dksX7_gather_5 20 rfl rfl)
theorem dX7_gather_140 : decode cX7_gather 140 = .ok (.goto 4, 3) := dk_167 0 4 (dk_at dksX7_gather_5 21 rfl rfl)
theorem dX7_gather_143 : decode cX7_gather 143 = .ok (.iconst 0, 1) := dk_3 (dk_at dksX7_gather_6 0 rfl rfl)
theorem dX7_gather_144 : decode cX7_gather 144 = .ok (.putfield 197, 3) := dk_181 0 197 (dk_at dksX7_gather_6 1 rfl rfl)
theorem dX7_gather_147 : decode cX7_gather 147 = .ok (.aload_n 0, 1) := dk_42 (dk_at dksX7_gather_6 4 rfl rfl)
theorem dX7_gather_148 : decode cX7_gather 148 = .ok (.getfield 66, 3) := dk_180 0 66 (dk_at dksX7_gather_6 5 rfl rfl)
theorem dX7_gather_151 : decode cX7_gather 151 = .ok (.aload_n 0, 1) := dk_42 (dk_at dksX7_gather_6 8 rfl rfl)
theorem dX7_gather_152 : decode cX7_gather 152 = .ok (.getfield 63, 3) := dk_180 0 63 (dk_at dksX7_gather_6 9 rfl rfl)
theorem dX7_gather_155 : decode cX7_gather 155 = .ok (.invokestatic 203, 3) := dk_184 0 203 (dk_at dksX7_gather_6 12 rfl rfl)
theorem dX7_gather_158 : decode cX7_gather 158 = .ok (.iinc 6 1, 3) := dk_132 6 1 (dk_at dksX7_gather_6 15 rfl rfl)
theorem dX7_gather_161 : decode cX7_gather 161 = .ok (.goto (-123), 3) := dk_167 255 133 (dk_at dksX7_gather_6 18 rfl rfl)
theorem dX7_gather_164 : decode cX7_gather 164 = .ok (.iinc 5 1, 3) := dk_132 5 1 (dk_at dksX7_gather_6 21 rfl rfl)
theorem dX7_gather_167 : decode cX7_gather 167 = .ok (.goto (-144), 3) := dk_167 255 112 (dk_at dksX7_gather_7 0 rfl rfl)
theorem dX7_gather_170 : decode cX7_gather 170 = .ok (.iinc 4 1, 3) := dk_132 4 1 (dk_at dksX7_gather_7 3 rfl rfl)
theorem dX7_gather_173 : decode cX7_gather 173 = .ok (.goto (-162), 3) := dk_167 255 94 (dk_at dksX7_gather_7 6 rfl rfl)
theorem dX7_gather_176 : decode cX7_gather 176 = .ok (.aload_n 0, 1) := dk_42 (dk_at dksX7_gather_7 9 rfl rfl)
theorem dX7_gather_177 : decode cX7_gather 177 = .ok (.getfield 63, 3) := dk_180 0 63 (dk_at dksX7_gather_7 10 rfl rfl)
theorem dX7_gather_180 : decode cX7_gather 180 = .ok (.aload_n 0, 1) := dk_42 (dk_at dksX7_gather_7 13 rfl rfl)
theorem dX7_gather_181 : decode cX7_gather 181 = .ok (.getfield 41, 3) := dk_180 0 41 (dk_at dksX7_gather_7 14 rfl rfl)
theorem dX7_gather_184 : decode cX7_gather 184 = .ok (.invokevirtual 183, 3) := dk_182 0 183 (dk_at dksX7_gather_7 17 rfl rfl)
theorem dX7_gather_187 : decode cX7_gather 187 = .ok (.invokevirtual 155, 3) := dk_182 0 155 (dk_at dksX7_gather_7 20 rfl rfl)
theorem dX7_gather_190 : decode cX7_gather 190 = .ok (.aload_n 0, 1) := dk_42 (dk_at dksX7_gather_7 23 rfl rfl)
theorem dX7_gather_191 : decode cX7_gather 191 = .ok (.aload_n 0, 1) := dk_42 (dk_at dksX7_gather_8 0 rfl rfl)
theorem dX7_gather_192 : decode cX7_gather 192 = .ok (.getfield 63, 3) := dk_180 0 63 (dk_at dksX7_gather_8 1 rfl rfl)
theorem dX7_gather_195 : decode cX7_gather 195 = .ok (.sipush 27720, 3) := dk_17 108 72 (dk_at dksX7_gather_8 4 rfl rfl)
theorem dX7_gather_198 : decode cX7_gather 198 = .ok (.invokevirtual 194, 3) := dk_182 0 194 (dk_at dksX7_gather_8 7 rfl rfl)
theorem dX7_gather_201 : decode cX7_gather 201 = .ok (.aload_n 0, 1) := dk_42 (dk_at dksX7_gather_8 10 rfl rfl)
theorem dX7_gather_202 : decode cX7_gather 202 = .ok (.aload_n 0, 1) := dk_42 (dk_at dksX7_gather_8 11 rfl rfl)
theorem dX7_gather_203 : decode cX7_gather 203 = .ok (.getfield 63, 3) := dk_180 0 63 (dk_at dksX7_gather_8 12 rfl rfl)
theorem dX7_gather_206 : decode cX7_gather 206 = .ok (.sipush 27720, 3) := dk_17 108 72 (dk_at dksX7_gather_8 15 rfl rfl)
theorem dX7_gather_209 : decode cX7_gather 209 = .ok (.invokevirtual 194, 3) := dk_182 0 194 (dk_at dksX7_gather_8 18 rfl rfl)
theorem dX7_gather_212 : decode cX7_gather 212 = .ok (.aload_n 3, 1) := dk_45 (dk_at dksX7_gather_8 21 rfl rfl)
theorem dX7_gather_213 : decode cX7_gather 213 = .ok (.aload_n 0, 1) := dk_42 (dk_at dksX7_gather_8 22 rfl rfl)
theorem dX7_gather_214 : decode cX7_gather 214 = .ok (.getfield 66, 3) := dk_180 0 66 (dk_at dksX7_gather_9 0 rfl rfl)
theorem dX7_gather_217 : decode cX7_gather 217 = .ok (.aload_n 0, 1) := dk_42 (dk_at dksX7_gather_9 3 rfl rfl)
theorem dX7_gather_218 : decode cX7_gather 218 = .ok (.getfield 63, 3) := dk_180 0 63 (dk_at dksX7_gather_9 4 rfl rfl)
theorem dX7_gather_221 : decode cX7_gather 221 = .ok (.invokevirtual 187, 3) := dk_182 0 187 (dk_at dksX7_gather_9 7 rfl rfl)
theorem dX7_gather_224 : decode cX7_gather 224 = .ok (.return_, 1) := dk_177 (dk_at dksX7_gather_9 10 rfl rfl)
abbrev cX7_scaleInto : ByteArray := prog_42_method_21_code
def yX7_scaleInto : MethodName := ⟨RX7, "scaleInto", "(LWasteHouse$ShareSolve$Whole;I)V"⟩
def dkwX7_scaleInto_1 : List UInt8 := [180, 0, 72, 182, 0, 155, 177]
abbrev dktX7_scaleInto_1 : List UInt8 := dkwX7_scaleInto_1 ++ []
def dkwX7_scaleInto_0 : List UInt8 := [42, 180, 0, 69, 28, 182, 0, 148, 43, 42, 180, 0, 69, 42, 180, 0, 72, 184, 0, 151, 43, 42]
abbrev dktX7_scaleInto_0 : List UInt8 := dkwX7_scaleInto_0 ++ dktX7_scaleInto_1
theorem dksX7_scaleInto_0 : cX7_scaleInto.data.toList.drop 0 = dktX7_scaleInto_0 := by decide +kernel
theorem dksX7_scaleInto_1 : cX7_scaleInto.data.toList.drop 22 = dktX7_scaleInto_1 := dk_seg dksX7_scaleInto_0 22 rfl rfl
theorem dX7_scaleInto_0 : decode cX7_scaleInto 0 = .ok (.aload_n 0, 1) := dk_42 (dk_at dksX7_scaleInto_0 0 rfl rfl)
theorem dX7_scaleInto_1 : decode cX7_scaleInto 1 = .ok (.getfield 69, 3) := dk_180 0 69 (dk_at dksX7_scaleInto_0 1 rfl rfl)
theorem dX7_scaleInto_4 : decode cX7_scaleInto 4 = .ok (.iload_n 2, 1) := dk_28 (dk_at dksX7_scaleInto_0 4 rfl rfl)
theorem dX7_scaleInto_5 : decode cX7_scaleInto 5 = .ok (.invokevirtual 148, 3) := dk_182 0 148 (dk_at dksX7_scaleInto_0 5 rfl rfl)
theorem dX7_scaleInto_8 : decode cX7_scaleInto 8 = .ok (.aload_n 1, 1) := dk_43 (dk_at dksX7_scaleInto_0 8 rfl rfl)
theorem dX7_scaleInto_9 : decode cX7_scaleInto 9 = .ok (.aload_n 0, 1) := dk_42 (dk_at dksX7_scaleInto_0 9 rfl rfl)
theorem dX7_scaleInto_10 : decode cX7_scaleInto 10 = .ok (.getfield 69, 3) := dk_180 0 69 (dk_at dksX7_scaleInto_0 10 rfl rfl)
theorem dX7_scaleInto_13 : decode cX7_scaleInto 13 = .ok (.aload_n 0, 1) := dk_42 (dk_at dksX7_scaleInto_0 13 rfl rfl)
theorem dX7_scaleInto_14 : decode cX7_scaleInto 14 = .ok (.getfield 72, 3) := dk_180 0 72 (dk_at dksX7_scaleInto_0 14 rfl rfl)
theorem dX7_scaleInto_17 : decode cX7_scaleInto 17 = .ok (.invokestatic 151, 3) := dk_184 0 151 (dk_at dksX7_scaleInto_0 17 rfl rfl)
theorem dX7_scaleInto_20 : decode cX7_scaleInto 20 = .ok (.aload_n 1, 1) := dk_43 (dk_at dksX7_scaleInto_0 20 rfl rfl)
theorem dX7_scaleInto_21 : decode cX7_scaleInto 21 = .ok (.aload_n 0, 1) := dk_42 (dk_at dksX7_scaleInto_0 21 rfl rfl)
theorem dX7_scaleInto_22 : decode cX7_scaleInto 22 = .ok (.getfield 72, 3) := dk_180 0 72 (dk_at dksX7_scaleInto_1 0 rfl rfl)
theorem dX7_scaleInto_25 : decode cX7_scaleInto 25 = .ok (.invokevirtual 155, 3) := dk_182 0 155 (dk_at dksX7_scaleInto_1 3 rfl rfl)
theorem dX7_scaleInto_28 : decode cX7_scaleInto 28 = .ok (.return_, 1) := dk_177 (dk_at dksX7_scaleInto_1 6 rfl rfl)
abbrev cX7_out : ByteArray := prog_42_method_23_code
def yX7_out : MethodName := ⟨RX7, "out", "(III)J"⟩
def dkwX7_out_2 : List UInt8 := [180, 0, 47, 16, 9, 6, 27, 104, 96, 28, 96, 50, 29, 182, 0, 209, 167, 0, 6, 20, 0, 213, 173]
abbrev dktX7_out_2 : List UInt8 := dkwX7_out_2 ++ []
def dkwX7_out_1 : List UInt8 := [153, 0, 14, 29, 184, 0, 206, 153, 0, 7, 4, 167, 0, 4, 3, 54, 4, 21, 4, 153, 0, 23, 42]
abbrev dktX7_out_1 : List UInt8 := dkwX7_out_1 ++ dktX7_out_2
def dkwX7_out_0 : List UInt8 := [42, 180, 0, 163, 153, 0, 34, 27, 155, 0, 30, 27, 42, 180, 0, 177, 162, 0, 22, 42, 28, 182, 0, 108]
abbrev dktX7_out_0 : List UInt8 := dkwX7_out_0 ++ dktX7_out_1
theorem dksX7_out_0 : cX7_out.data.toList.drop 0 = dktX7_out_0 := by decide +kernel
theorem dksX7_out_1 : cX7_out.data.toList.drop 24 = dktX7_out_1 := dk_seg dksX7_out_0 24 rfl rfl
theorem dksX7_out_2 : cX7_out.data.toList.drop 47 = dktX7_out_2 := dk_seg dksX7_out_1 23 rfl rfl
theorem dX7_out_0 : decode cX7_out 0 = .ok (.aload_n 0, 1) := dk_42 (dk_at dksX7_out_0 0 rfl rfl)
theorem dX7_out_1 : decode cX7_out 1 = .ok (.getfield 163, 3) := dk_180 0 163 (dk_at dksX7_out_0 1 rfl rfl)
theorem dX7_out_4 : decode cX7_out 4 = .ok (.ifCond .eq 34, 3) := dk_153 0 34 (dk_at dksX7_out_0 4 rfl rfl)
theorem dX7_out_7 : decode cX7_out 7 = .ok (.iload_n 1, 1) := dk_27 (dk_at dksX7_out_0 7 rfl rfl)
theorem dX7_out_8 : decode cX7_out 8 = .ok (.ifCond .lt 30, 3) := dk_155 0 30 (dk_at dksX7_out_0 8 rfl rfl)
theorem dX7_out_11 : decode cX7_out 11 = .ok (.iload_n 1, 1) := dk_27 (dk_at dksX7_out_0 11 rfl rfl)
theorem dX7_out_12 : decode cX7_out 12 = .ok (.aload_n 0, 1) := dk_42 (dk_at dksX7_out_0 12 rfl rfl)
theorem dX7_out_13 : decode cX7_out 13 = .ok (.getfield 177, 3) := dk_180 0 177 (dk_at dksX7_out_0 13 rfl rfl)
theorem dX7_out_16 : decode cX7_out 16 = .ok (.if_icmp .ge 22, 3) := dk_162 0 22 (dk_at dksX7_out_0 16 rfl rfl)
theorem dX7_out_19 : decode cX7_out 19 = .ok (.aload_n 0, 1) := dk_42 (dk_at dksX7_out_0 19 rfl rfl)
theorem dX7_out_20 : decode cX7_out 20 = .ok (.iload_n 2, 1) := dk_28 (dk_at dksX7_out_0 20 rfl rfl)
theorem dX7_out_21 : decode cX7_out 21 = .ok (.invokevirtual 108, 3) := dk_182 0 108 (dk_at dksX7_out_0 21 rfl rfl)
theorem dX7_out_24 : decode cX7_out 24 = .ok (.ifCond .eq 14, 3) := dk_153 0 14 (dk_at dksX7_out_1 0 rfl rfl)
theorem dX7_out_27 : decode cX7_out 27 = .ok (.iload_n 3, 1) := dk_29 (dk_at dksX7_out_1 3 rfl rfl)
theorem dX7_out_28 : decode cX7_out 28 = .ok (.invokestatic 206, 3) := dk_184 0 206 (dk_at dksX7_out_1 4 rfl rfl)
theorem dX7_out_31 : decode cX7_out 31 = .ok (.ifCond .eq 7, 3) := dk_153 0 7 (dk_at dksX7_out_1 7 rfl rfl)
theorem dX7_out_34 : decode cX7_out 34 = .ok (.iconst 1, 1) := dk_4 (dk_at dksX7_out_1 10 rfl rfl)
theorem dX7_out_35 : decode cX7_out 35 = .ok (.goto 4, 3) := dk_167 0 4 (dk_at dksX7_out_1 11 rfl rfl)
theorem dX7_out_38 : decode cX7_out 38 = .ok (.iconst 0, 1) := dk_3 (dk_at dksX7_out_1 14 rfl rfl)
theorem dX7_out_39 : decode cX7_out 39 = .ok (.istore 4, 2) := dk_54 4 (dk_at dksX7_out_1 15 rfl rfl)
theorem dX7_out_41 : decode cX7_out 41 = .ok (.iload 4, 2) := dk_21 4 (dk_at dksX7_out_1 17 rfl rfl)
theorem dX7_out_43 : decode cX7_out 43 = .ok (.ifCond .eq 23, 3) := dk_153 0 23 (dk_at dksX7_out_1 19 rfl rfl)
theorem dX7_out_46 : decode cX7_out 46 = .ok (.aload_n 0, 1) := dk_42 (dk_at dksX7_out_1 22 rfl rfl)
theorem dX7_out_47 : decode cX7_out 47 = .ok (.getfield 47, 3) := dk_180 0 47 (dk_at dksX7_out_2 0 rfl rfl)
theorem dX7_out_50 : decode cX7_out 50 = .ok (.bipush 9, 2) := dk_16 9 (dk_at dksX7_out_2 3 rfl rfl)
theorem dX7_out_52 : decode cX7_out 52 = .ok (.iconst 3, 1) := dk_6 (dk_at dksX7_out_2 5 rfl rfl)
theorem dX7_out_53 : decode cX7_out 53 = .ok (.iload_n 1, 1) := dk_27 (dk_at dksX7_out_2 6 rfl rfl)
theorem dX7_out_54 : decode cX7_out 54 = .ok (.imul, 1) := dk_104 (dk_at dksX7_out_2 7 rfl rfl)
theorem dX7_out_55 : decode cX7_out 55 = .ok (.iadd, 1) := dk_96 (dk_at dksX7_out_2 8 rfl rfl)
theorem dX7_out_56 : decode cX7_out 56 = .ok (.iload_n 2, 1) := dk_28 (dk_at dksX7_out_2 9 rfl rfl)
theorem dX7_out_57 : decode cX7_out 57 = .ok (.iadd, 1) := dk_96 (dk_at dksX7_out_2 10 rfl rfl)
theorem dX7_out_58 : decode cX7_out 58 = .ok (.aaload, 1) := dk_50 (dk_at dksX7_out_2 11 rfl rfl)
theorem dX7_out_59 : decode cX7_out 59 = .ok (.iload_n 3, 1) := dk_29 (dk_at dksX7_out_2 12 rfl rfl)
theorem dX7_out_60 : decode cX7_out 60 = .ok (.invokevirtual 209, 3) := dk_182 0 209 (dk_at dksX7_out_2 13 rfl rfl)
theorem dX7_out_63 : decode cX7_out 63 = .ok (.goto 6, 3) := dk_167 0 6 (dk_at dksX7_out_2 16 rfl rfl)
theorem dX7_out_66 : decode cX7_out 66 = .ok (.ldc2_w 213, 3) := dk_20 0 213 (dk_at dksX7_out_2 19 rfl rfl)
theorem dX7_out_69 : decode cX7_out 69 = .ok (.lreturn, 1) := dk_173 (dk_at dksX7_out_2 22 rfl rfl)
abbrev cX7_isPart : ByteArray := prog_42_method_22_code
def yX7_isPart : MethodName := ⟨RX7, "isPart", "(I)Z"⟩
def dkwX7_isPart_0 : List UInt8 := [26, 155, 0, 13, 26, 16, 6, 163, 0, 7, 4, 167, 0, 4, 3, 172]
abbrev dktX7_isPart_0 : List UInt8 := dkwX7_isPart_0 ++ []
theorem dksX7_isPart_0 : cX7_isPart.data.toList.drop 0 = dktX7_isPart_0 := by decide +kernel
theorem dX7_isPart_0 : decode cX7_isPart 0 = .ok (.iload_n 0, 1) := dk_26 (dk_at dksX7_isPart_0 0 rfl rfl)
theorem dX7_isPart_1 : decode cX7_isPart 1 = .ok (.ifCond .lt 13, 3) := dk_155 0 13 (dk_at dksX7_isPart_0 1 rfl rfl)
theorem dX7_isPart_4 : decode cX7_isPart 4 = .ok (.iload_n 0, 1) := dk_26 (dk_at dksX7_isPart_0 4 rfl rfl)
theorem dX7_isPart_5 : decode cX7_isPart 5 = .ok (.bipush 6, 2) := dk_16 6 (dk_at dksX7_isPart_0 5 rfl rfl)
theorem dX7_isPart_7 : decode cX7_isPart 7 = .ok (.if_icmp .gt 7, 3) := dk_163 0 7 (dk_at dksX7_isPart_0 7 rfl rfl)
theorem dX7_isPart_10 : decode cX7_isPart 10 = .ok (.iconst 1, 1) := dk_4 (dk_at dksX7_isPart_0 10 rfl rfl)
theorem dX7_isPart_11 : decode cX7_isPart 11 = .ok (.goto 4, 3) := dk_167 0 4 (dk_at dksX7_isPart_0 11 rfl rfl)
theorem dX7_isPart_14 : decode cX7_isPart 14 = .ok (.iconst 0, 1) := dk_3 (dk_at dksX7_isPart_0 14 rfl rfl)
theorem dX7_isPart_15 : decode cX7_isPart 15 = .ok (.ireturn, 1) := dk_172 (dk_at dksX7_isPart_0 15 rfl rfl)
abbrev cX7_machine : ByteArray := prog_42_method_5_code
def yX7_machine : MethodName := ⟨RX7, "machine", "(I)I"⟩
def dkwX7_machine_1 : List UInt8 := [42, 180, 0, 92, 27, 79, 42, 3, 181, 0, 97, 42, 89, 180, 0, 92, 90, 4, 96, 181, 0, 92, 172]
abbrev dktX7_machine_1 : List UInt8 := dkwX7_machine_1 ++ []
def dkwX7_machine_0 : List UInt8 := [42, 180, 0, 92, 6, 159, 0, 13, 27, 4, 161, 0, 8, 27, 6, 164, 0, 5, 2, 172, 42, 180, 0, 7]
abbrev dktX7_machine_0 : List UInt8 := dkwX7_machine_0 ++ dktX7_machine_1
theorem dksX7_machine_0 : cX7_machine.data.toList.drop 0 = dktX7_machine_0 := by decide +kernel
theorem dksX7_machine_1 : cX7_machine.data.toList.drop 24 = dktX7_machine_1 := dk_seg dksX7_machine_0 24 rfl rfl
theorem dX7_machine_0 : decode cX7_machine 0 = .ok (.aload_n 0, 1) := dk_42 (dk_at dksX7_machine_0 0 rfl rfl)
theorem dX7_machine_1 : decode cX7_machine 1 = .ok (.getfield 92, 3) := dk_180 0 92 (dk_at dksX7_machine_0 1 rfl rfl)
theorem dX7_machine_4 : decode cX7_machine 4 = .ok (.iconst 3, 1) := dk_6 (dk_at dksX7_machine_0 4 rfl rfl)
theorem dX7_machine_5 : decode cX7_machine 5 = .ok (.if_icmp .eq 13, 3) := dk_159 0 13 (dk_at dksX7_machine_0 5 rfl rfl)
theorem dX7_machine_8 : decode cX7_machine 8 = .ok (.iload_n 1, 1) := dk_27 (dk_at dksX7_machine_0 8 rfl rfl)
theorem dX7_machine_9 : decode cX7_machine 9 = .ok (.iconst 1, 1) := dk_4 (dk_at dksX7_machine_0 9 rfl rfl)
theorem dX7_machine_10 : decode cX7_machine 10 = .ok (.if_icmp .lt 8, 3) := dk_161 0 8 (dk_at dksX7_machine_0 10 rfl rfl)
theorem dX7_machine_13 : decode cX7_machine 13 = .ok (.iload_n 1, 1) := dk_27 (dk_at dksX7_machine_0 13 rfl rfl)
theorem dX7_machine_14 : decode cX7_machine 14 = .ok (.iconst 3, 1) := dk_6 (dk_at dksX7_machine_0 14 rfl rfl)
theorem dX7_machine_15 : decode cX7_machine 15 = .ok (.if_icmp .le 5, 3) := dk_164 0 5 (dk_at dksX7_machine_0 15 rfl rfl)
theorem dX7_machine_18 : decode cX7_machine 18 = .ok (.iconst (-1), 1) := dk_2 (dk_at dksX7_machine_0 18 rfl rfl)
theorem dX7_machine_19 : decode cX7_machine 19 = .ok (.ireturn, 1) := dk_172 (dk_at dksX7_machine_0 19 rfl rfl)
theorem dX7_machine_20 : decode cX7_machine 20 = .ok (.aload_n 0, 1) := dk_42 (dk_at dksX7_machine_0 20 rfl rfl)
theorem dX7_machine_21 : decode cX7_machine 21 = .ok (.getfield 7, 3) := dk_180 0 7 (dk_at dksX7_machine_0 21 rfl rfl)
theorem dX7_machine_24 : decode cX7_machine 24 = .ok (.aload_n 0, 1) := dk_42 (dk_at dksX7_machine_1 0 rfl rfl)
theorem dX7_machine_25 : decode cX7_machine 25 = .ok (.getfield 92, 3) := dk_180 0 92 (dk_at dksX7_machine_1 1 rfl rfl)
theorem dX7_machine_28 : decode cX7_machine 28 = .ok (.iload_n 1, 1) := dk_27 (dk_at dksX7_machine_1 4 rfl rfl)
theorem dX7_machine_29 : decode cX7_machine 29 = .ok (.iastore, 1) := dk_79 (dk_at dksX7_machine_1 5 rfl rfl)
theorem dX7_machine_30 : decode cX7_machine 30 = .ok (.aload_n 0, 1) := dk_42 (dk_at dksX7_machine_1 6 rfl rfl)
theorem dX7_machine_31 : decode cX7_machine 31 = .ok (.iconst 0, 1) := dk_3 (dk_at dksX7_machine_1 7 rfl rfl)
theorem dX7_machine_32 : decode cX7_machine 32 = .ok (.putfield 97, 3) := dk_181 0 97 (dk_at dksX7_machine_1 8 rfl rfl)
theorem dX7_machine_35 : decode cX7_machine 35 = .ok (.aload_n 0, 1) := dk_42 (dk_at dksX7_machine_1 11 rfl rfl)
theorem dX7_machine_36 : decode cX7_machine 36 = .ok (.dup, 1) := dk_89 (dk_at dksX7_machine_1 12 rfl rfl)
theorem dX7_machine_37 : decode cX7_machine 37 = .ok (.getfield 92, 3) := dk_180 0 92 (dk_at dksX7_machine_1 13 rfl rfl)
theorem dX7_machine_40 : decode cX7_machine 40 = .ok (.dup_x1, 1) := dk_90 (dk_at dksX7_machine_1 16 rfl rfl)
theorem dX7_machine_41 : decode cX7_machine 41 = .ok (.iconst 1, 1) := dk_4 (dk_at dksX7_machine_1 17 rfl rfl)
theorem dX7_machine_42 : decode cX7_machine 42 = .ok (.iadd, 1) := dk_96 (dk_at dksX7_machine_1 18 rfl rfl)
theorem dX7_machine_43 : decode cX7_machine 43 = .ok (.putfield 92, 3) := dk_181 0 92 (dk_at dksX7_machine_1 19 rfl rfl)
theorem dX7_machine_46 : decode cX7_machine 46 = .ok (.ireturn, 1) := dk_172 (dk_at dksX7_machine_1 22 rfl rfl)
abbrev cX7_port : ByteArray := prog_42_method_6_code
def yX7_port : MethodName := ⟨RX7, "port", "()I"⟩
def dkwX7_port_1 : List UInt8 := [181, 0, 101, 172]
abbrev dktX7_port_1 : List UInt8 := dkwX7_port_1 ++ []
def dkwX7_port_0 : List UInt8 := [42, 180, 0, 101, 6, 160, 0, 5, 2, 172, 42, 3, 181, 0, 97, 42, 89, 180, 0, 101, 90, 4, 96]
abbrev dktX7_port_0 : List UInt8 := dkwX7_port_0 ++ dktX7_port_1
theorem dksX7_port_0 : cX7_port.data.toList.drop 0 = dktX7_port_0 := by decide +kernel
theorem dksX7_port_1 : cX7_port.data.toList.drop 23 = dktX7_port_1 := dk_seg dksX7_port_0 23 rfl rfl
theorem dX7_port_0 : decode cX7_port 0 = .ok (.aload_n 0, 1) := dk_42 (dk_at dksX7_port_0 0 rfl rfl)
theorem dX7_port_1 : decode cX7_port 1 = .ok (.getfield 101, 3) := dk_180 0 101 (dk_at dksX7_port_0 1 rfl rfl)
theorem dX7_port_4 : decode cX7_port 4 = .ok (.iconst 3, 1) := dk_6 (dk_at dksX7_port_0 4 rfl rfl)
theorem dX7_port_5 : decode cX7_port 5 = .ok (.if_icmp .ne 5, 3) := dk_160 0 5 (dk_at dksX7_port_0 5 rfl rfl)
theorem dX7_port_8 : decode cX7_port 8 = .ok (.iconst (-1), 1) := dk_2 (dk_at dksX7_port_0 8 rfl rfl)
theorem dX7_port_9 : decode cX7_port 9 = .ok (.ireturn, 1) := dk_172 (dk_at dksX7_port_0 9 rfl rfl)
theorem dX7_port_10 : decode cX7_port 10 = .ok (.aload_n 0, 1) := dk_42 (dk_at dksX7_port_0 10 rfl rfl)
theorem dX7_port_11 : decode cX7_port 11 = .ok (.iconst 0, 1) := dk_3 (dk_at dksX7_port_0 11 rfl rfl)
theorem dX7_port_12 : decode cX7_port 12 = .ok (.putfield 97, 3) := dk_181 0 97 (dk_at dksX7_port_0 12 rfl rfl)
theorem dX7_port_15 : decode cX7_port 15 = .ok (.aload_n 0, 1) := dk_42 (dk_at dksX7_port_0 15 rfl rfl)
theorem dX7_port_16 : decode cX7_port 16 = .ok (.dup, 1) := dk_89 (dk_at dksX7_port_0 16 rfl rfl)
theorem dX7_port_17 : decode cX7_port 17 = .ok (.getfield 101, 3) := dk_180 0 101 (dk_at dksX7_port_0 17 rfl rfl)
theorem dX7_port_20 : decode cX7_port 20 = .ok (.dup_x1, 1) := dk_90 (dk_at dksX7_port_0 20 rfl rfl)
theorem dX7_port_21 : decode cX7_port 21 = .ok (.iconst 1, 1) := dk_4 (dk_at dksX7_port_0 21 rfl rfl)
theorem dX7_port_22 : decode cX7_port 22 = .ok (.iadd, 1) := dk_96 (dk_at dksX7_port_0 22 rfl rfl)
theorem dX7_port_23 : decode cX7_port 23 = .ok (.putfield 101, 3) := dk_181 0 101 (dk_at dksX7_port_1 0 rfl rfl)
theorem dX7_port_26 : decode cX7_port 26 = .ok (.ireturn, 1) := dk_172 (dk_at dksX7_port_1 3 rfl rfl)
abbrev cX7_joinOut : ByteArray := prog_42_method_7_code
def yX7_joinOut : MethodName := ⟨RX7, "joinOut", "(III)Z"⟩
def dkwX7_joinOut_2 : List UInt8 := [104, 28, 96, 29, 79, 42, 3, 181, 0, 97, 4, 172]
abbrev dktX7_joinOut_2 : List UInt8 := dkwX7_joinOut_2 ++ []
def dkwX7_joinOut_1 : List UInt8 := [180, 0, 92, 162, 0, 13, 29, 2, 42, 180, 0, 101, 100, 162, 0, 5, 3, 172, 42, 180, 0, 13, 6, 27]
abbrev dktX7_joinOut_1 : List UInt8 := dkwX7_joinOut_1 ++ dktX7_joinOut_2
def dkwX7_joinOut_0 : List UInt8 := [42, 27, 182, 0, 104, 153, 0, 35, 28, 155, 0, 31, 28, 42, 180, 0, 7, 27, 46, 162, 0, 21, 29, 42]
abbrev dktX7_joinOut_0 : List UInt8 := dkwX7_joinOut_0 ++ dktX7_joinOut_1
theorem dksX7_joinOut_0 : cX7_joinOut.data.toList.drop 0 = dktX7_joinOut_0 := by decide +kernel
theorem dksX7_joinOut_1 : cX7_joinOut.data.toList.drop 24 = dktX7_joinOut_1 := dk_seg dksX7_joinOut_0 24 rfl rfl
theorem dksX7_joinOut_2 : cX7_joinOut.data.toList.drop 48 = dktX7_joinOut_2 := dk_seg dksX7_joinOut_1 24 rfl rfl
theorem dX7_joinOut_0 : decode cX7_joinOut 0 = .ok (.aload_n 0, 1) := dk_42 (dk_at dksX7_joinOut_0 0 rfl rfl)
theorem dX7_joinOut_1 : decode cX7_joinOut 1 = .ok (.iload_n 1, 1) := dk_27 (dk_at dksX7_joinOut_0 1 rfl rfl)
theorem dX7_joinOut_2 : decode cX7_joinOut 2 = .ok (.invokevirtual 104, 3) := dk_182 0 104 (dk_at dksX7_joinOut_0 2 rfl rfl)
theorem dX7_joinOut_5 : decode cX7_joinOut 5 = .ok (.ifCond .eq 35, 3) := dk_153 0 35 (dk_at dksX7_joinOut_0 5 rfl rfl)
theorem dX7_joinOut_8 : decode cX7_joinOut 8 = .ok (.iload_n 2, 1) := dk_28 (dk_at dksX7_joinOut_0 8 rfl rfl)
theorem dX7_joinOut_9 : decode cX7_joinOut 9 = .ok (.ifCond .lt 31, 3) := dk_155 0 31 (dk_at dksX7_joinOut_0 9 rfl rfl)
theorem dX7_joinOut_12 : decode cX7_joinOut 12 = .ok (.iload_n 2, 1) := dk_28 (dk_at dksX7_joinOut_0 12 rfl rfl)
theorem dX7_joinOut_13 : decode cX7_joinOut 13 = .ok (.aload_n 0, 1) := dk_42 (dk_at dksX7_joinOut_0 13 rfl rfl)
theorem dX7_joinOut_14 : decode cX7_joinOut 14 = .ok (.getfield 7, 3) := dk_180 0 7 (dk_at dksX7_joinOut_0 14 rfl rfl)
theorem dX7_joinOut_17 : decode cX7_joinOut 17 = .ok (.iload_n 1, 1) := dk_27 (dk_at dksX7_joinOut_0 17 rfl rfl)
theorem dX7_joinOut_18 : decode cX7_joinOut 18 = .ok (.iaload, 1) := dk_46 (dk_at dksX7_joinOut_0 18 rfl rfl)
theorem dX7_joinOut_19 : decode cX7_joinOut 19 = .ok (.if_icmp .ge 21, 3) := dk_162 0 21 (dk_at dksX7_joinOut_0 19 rfl rfl)
theorem dX7_joinOut_22 : decode cX7_joinOut 22 = .ok (.iload_n 3, 1) := dk_29 (dk_at dksX7_joinOut_0 22 rfl rfl)
theorem dX7_joinOut_23 : decode cX7_joinOut 23 = .ok (.aload_n 0, 1) := dk_42 (dk_at dksX7_joinOut_0 23 rfl rfl)
theorem dX7_joinOut_24 : decode cX7_joinOut 24 = .ok (.getfield 92, 3) := dk_180 0 92 (dk_at dksX7_joinOut_1 0 rfl rfl)
theorem dX7_joinOut_27 : decode cX7_joinOut 27 = .ok (.if_icmp .ge 13, 3) := dk_162 0 13 (dk_at dksX7_joinOut_1 3 rfl rfl)
theorem dX7_joinOut_30 : decode cX7_joinOut 30 = .ok (.iload_n 3, 1) := dk_29 (dk_at dksX7_joinOut_1 6 rfl rfl)
theorem dX7_joinOut_31 : decode cX7_joinOut 31 = .ok (.iconst (-1), 1) := dk_2 (dk_at dksX7_joinOut_1 7 rfl rfl)
theorem dX7_joinOut_32 : decode cX7_joinOut 32 = .ok (.aload_n 0, 1) := dk_42 (dk_at dksX7_joinOut_1 8 rfl rfl)
theorem dX7_joinOut_33 : decode cX7_joinOut 33 = .ok (.getfield 101, 3) := dk_180 0 101 (dk_at dksX7_joinOut_1 9 rfl rfl)
theorem dX7_joinOut_36 : decode cX7_joinOut 36 = .ok (.isub, 1) := dk_100 (dk_at dksX7_joinOut_1 12 rfl rfl)
theorem dX7_joinOut_37 : decode cX7_joinOut 37 = .ok (.if_icmp .ge 5, 3) := dk_162 0 5 (dk_at dksX7_joinOut_1 13 rfl rfl)
theorem dX7_joinOut_40 : decode cX7_joinOut 40 = .ok (.iconst 0, 1) := dk_3 (dk_at dksX7_joinOut_1 16 rfl rfl)
theorem dX7_joinOut_41 : decode cX7_joinOut 41 = .ok (.ireturn, 1) := dk_172 (dk_at dksX7_joinOut_1 17 rfl rfl)
theorem dX7_joinOut_42 : decode cX7_joinOut 42 = .ok (.aload_n 0, 1) := dk_42 (dk_at dksX7_joinOut_1 18 rfl rfl)
theorem dX7_joinOut_43 : decode cX7_joinOut 43 = .ok (.getfield 13, 3) := dk_180 0 13 (dk_at dksX7_joinOut_1 19 rfl rfl)
theorem dX7_joinOut_46 : decode cX7_joinOut 46 = .ok (.iconst 3, 1) := dk_6 (dk_at dksX7_joinOut_1 22 rfl rfl)
theorem dX7_joinOut_47 : decode cX7_joinOut 47 = .ok (.iload_n 1, 1) := dk_27 (dk_at dksX7_joinOut_1 23 rfl rfl)
theorem dX7_joinOut_48 : decode cX7_joinOut 48 = .ok (.imul, 1) := dk_104 (dk_at dksX7_joinOut_2 0 rfl rfl)
theorem dX7_joinOut_49 : decode cX7_joinOut 49 = .ok (.iload_n 2, 1) := dk_28 (dk_at dksX7_joinOut_2 1 rfl rfl)
theorem dX7_joinOut_50 : decode cX7_joinOut 50 = .ok (.iadd, 1) := dk_96 (dk_at dksX7_joinOut_2 2 rfl rfl)
theorem dX7_joinOut_51 : decode cX7_joinOut 51 = .ok (.iload_n 3, 1) := dk_29 (dk_at dksX7_joinOut_2 3 rfl rfl)
theorem dX7_joinOut_52 : decode cX7_joinOut 52 = .ok (.iastore, 1) := dk_79 (dk_at dksX7_joinOut_2 4 rfl rfl)
theorem dX7_joinOut_53 : decode cX7_joinOut 53 = .ok (.aload_n 0, 1) := dk_42 (dk_at dksX7_joinOut_2 5 rfl rfl)
theorem dX7_joinOut_54 : decode cX7_joinOut 54 = .ok (.iconst 0, 1) := dk_3 (dk_at dksX7_joinOut_2 6 rfl rfl)
theorem dX7_joinOut_55 : decode cX7_joinOut 55 = .ok (.putfield 97, 3) := dk_181 0 97 (dk_at dksX7_joinOut_2 7 rfl rfl)
theorem dX7_joinOut_58 : decode cX7_joinOut 58 = .ok (.iconst 1, 1) := dk_4 (dk_at dksX7_joinOut_2 10 rfl rfl)
theorem dX7_joinOut_59 : decode cX7_joinOut 59 = .ok (.ireturn, 1) := dk_172 (dk_at dksX7_joinOut_2 11 rfl rfl)
abbrev cX7_share : ByteArray := prog_42_method_9_code
def yX7_share : MethodName := ⟨RX7, "share", "(IIIJJ)Z"⟩
def dkwX7_share_5 : List UInt8 := [181, 0, 97, 4, 172]
abbrev dktX7_share_5 : List UInt8 := dkwX7_share_5 ++ []
def dkwX7_share_4 : List UInt8 := [162, 0, 5, 3, 172, 42, 180, 0, 16, 16, 9, 27, 104, 6, 28, 104, 96, 29, 96, 21, 8, 79, 42, 3]
abbrev dktX7_share_4 : List UInt8 := dkwX7_share_4 ++ dktX7_share_5
def dkwX7_share_3 : List UInt8 := [29, 96, 46, 54, 9, 42, 27, 28, 42, 180, 0, 7, 27, 46, 4, 100, 182, 0, 117, 21, 9, 96, 21, 8]
abbrev dktX7_share_3 : List UInt8 := dkwX7_share_3 ++ dktX7_share_4
def dkwX7_share_2 : List UInt8 := [20, 0, 115, 22, 6, 109, 22, 4, 105, 136, 54, 8, 42, 180, 0, 16, 16, 9, 27, 104, 6, 28, 104, 96]
abbrev dktX7_share_2 : List UInt8 := dkwX7_share_2 ++ dktX7_share_3
def dkwX7_share_1 : List UInt8 := [180, 0, 7, 27, 46, 4, 100, 162, 0, 13, 22, 4, 22, 6, 184, 0, 111, 154, 0, 5, 3, 172]
abbrev dktX7_share_1 : List UInt8 := dkwX7_share_1 ++ dktX7_share_2
def dkwX7_share_0 : List UInt8 := [42, 27, 182, 0, 104, 153, 0, 37, 42, 28, 182, 0, 108, 153, 0, 29, 29, 155, 0, 25, 29, 42]
abbrev dktX7_share_0 : List UInt8 := dkwX7_share_0 ++ dktX7_share_1
theorem dksX7_share_0 : cX7_share.data.toList.drop 0 = dktX7_share_0 := by decide +kernel
theorem dksX7_share_1 : cX7_share.data.toList.drop 22 = dktX7_share_1 := dk_seg dksX7_share_0 22 rfl rfl
theorem dksX7_share_2 : cX7_share.data.toList.drop 44 = dktX7_share_2 := dk_seg dksX7_share_1 22 rfl rfl
theorem dksX7_share_3 : cX7_share.data.toList.drop 68 = dktX7_share_3 := dk_seg dksX7_share_2 24 rfl rfl
theorem dksX7_share_4 : cX7_share.data.toList.drop 92 = dktX7_share_4 := dk_seg dksX7_share_3 24 rfl rfl
theorem dksX7_share_5 : cX7_share.data.toList.drop 116 = dktX7_share_5 := dk_seg dksX7_share_4 24 rfl rfl
theorem dX7_share_0 : decode cX7_share 0 = .ok (.aload_n 0, 1) := dk_42 (dk_at dksX7_share_0 0 rfl rfl)
theorem dX7_share_1 : decode cX7_share 1 = .ok (.iload_n 1, 1) := dk_27 (dk_at dksX7_share_0 1 rfl rfl)
theorem dX7_share_2 : decode cX7_share 2 = .ok (.invokevirtual 104, 3) := dk_182 0 104 (dk_at dksX7_share_0 2 rfl rfl)
theorem dX7_share_5 : decode cX7_share 5 = .ok (.ifCond .eq 37, 3) := dk_153 0 37 (dk_at dksX7_share_0 5 rfl rfl)
theorem dX7_share_8 : decode cX7_share 8 = .ok (.aload_n 0, 1) := dk_42 (dk_at dksX7_share_0 8 rfl rfl)
theorem dX7_share_9 : decode cX7_share 9 = .ok (.iload_n 2, 1) := dk_28 (dk_at dksX7_share_0 9 rfl rfl)
theorem dX7_share_10 : decode cX7_share 10 = .ok (.invokevirtual 108, 3) := dk_182 0 108 (dk_at dksX7_share_0 10 rfl rfl)
theorem dX7_share_13 : decode cX7_share 13 = .ok (.ifCond .eq 29, 3) := dk_153 0 29 (dk_at dksX7_share_0 13 rfl rfl)
theorem dX7_share_16 : decode cX7_share 16 = .ok (.iload_n 3, 1) := dk_29 (dk_at dksX7_share_0 16 rfl rfl)
theorem dX7_share_17 : decode cX7_share 17 = .ok (.ifCond .lt 25, 3) := dk_155 0 25 (dk_at dksX7_share_0 17 rfl rfl)
theorem dX7_share_20 : decode cX7_share 20 = .ok (.iload_n 3, 1) := dk_29 (dk_at dksX7_share_0 20 rfl rfl)
theorem dX7_share_21 : decode cX7_share 21 = .ok (.aload_n 0, 1) := dk_42 (dk_at dksX7_share_0 21 rfl rfl)
theorem dX7_share_22 : decode cX7_share 22 = .ok (.getfield 7, 3) := dk_180 0 7 (dk_at dksX7_share_1 0 rfl rfl)
theorem dX7_share_25 : decode cX7_share 25 = .ok (.iload_n 1, 1) := dk_27 (dk_at dksX7_share_1 3 rfl rfl)
theorem dX7_share_26 : decode cX7_share 26 = .ok (.iaload, 1) := dk_46 (dk_at dksX7_share_1 4 rfl rfl)
theorem dX7_share_27 : decode cX7_share 27 = .ok (.iconst 1, 1) := dk_4 (dk_at dksX7_share_1 5 rfl rfl)
theorem dX7_share_28 : decode cX7_share 28 = .ok (.isub, 1) := dk_100 (dk_at dksX7_share_1 6 rfl rfl)
theorem dX7_share_29 : decode cX7_share 29 = .ok (.if_icmp .ge 13, 3) := dk_162 0 13 (dk_at dksX7_share_1 7 rfl rfl)
theorem dX7_share_32 : decode cX7_share 32 = .ok (.lload 4, 2) := dk_22 4 (dk_at dksX7_share_1 10 rfl rfl)
theorem dX7_share_34 : decode cX7_share 34 = .ok (.lload 6, 2) := dk_22 6 (dk_at dksX7_share_1 12 rfl rfl)
theorem dX7_share_36 : decode cX7_share 36 = .ok (.invokestatic 111, 3) := dk_184 0 111 (dk_at dksX7_share_1 14 rfl rfl)
theorem dX7_share_39 : decode cX7_share 39 = .ok (.ifCond .ne 5, 3) := dk_154 0 5 (dk_at dksX7_share_1 17 rfl rfl)
theorem dX7_share_42 : decode cX7_share 42 = .ok (.iconst 0, 1) := dk_3 (dk_at dksX7_share_1 20 rfl rfl)
theorem dX7_share_43 : decode cX7_share 43 = .ok (.ireturn, 1) := dk_172 (dk_at dksX7_share_1 21 rfl rfl)
theorem dX7_share_44 : decode cX7_share 44 = .ok (.ldc2_w 115, 3) := dk_20 0 115 (dk_at dksX7_share_2 0 rfl rfl)
theorem dX7_share_47 : decode cX7_share 47 = .ok (.lload 6, 2) := dk_22 6 (dk_at dksX7_share_2 3 rfl rfl)
theorem dX7_share_49 : decode cX7_share 49 = .ok (.ldiv, 1) := dk_109 (dk_at dksX7_share_2 5 rfl rfl)
theorem dX7_share_50 : decode cX7_share 50 = .ok (.lload 4, 2) := dk_22 4 (dk_at dksX7_share_2 6 rfl rfl)
theorem dX7_share_52 : decode cX7_share 52 = .ok (.lmul, 1) := dk_105 (dk_at dksX7_share_2 8 rfl rfl)
theorem dX7_share_53 : decode cX7_share 53 = .ok (.l2i, 1) := dk_136 (dk_at dksX7_share_2 9 rfl rfl)
theorem dX7_share_54 : decode cX7_share 54 = .ok (.istore 8, 2) := dk_54 8 (dk_at dksX7_share_2 10 rfl rfl)
theorem dX7_share_56 : decode cX7_share 56 = .ok (.aload_n 0, 1) := dk_42 (dk_at dksX7_share_2 12 rfl rfl)
theorem dX7_share_57 : decode cX7_share 57 = .ok (.getfield 16, 3) := dk_180 0 16 (dk_at dksX7_share_2 13 rfl rfl)
theorem dX7_share_60 : decode cX7_share 60 = .ok (.bipush 9, 2) := dk_16 9 (dk_at dksX7_share_2 16 rfl rfl)
theorem dX7_share_62 : decode cX7_share 62 = .ok (.iload_n 1, 1) := dk_27 (dk_at dksX7_share_2 18 rfl rfl)
theorem dX7_share_63 : decode cX7_share 63 = .ok (.imul, 1) := dk_104 (dk_at dksX7_share_2 19 rfl rfl)
theorem dX7_share_64 : decode cX7_share 64 = .ok (.iconst 3, 1) := dk_6 (dk_at dksX7_share_2 20 rfl rfl)
theorem dX7_share_65 : decode cX7_share 65 = .ok (.iload_n 2, 1) := dk_28 (dk_at dksX7_share_2 21 rfl rfl)
theorem dX7_share_66 : decode cX7_share 66 = .ok (.imul, 1) := dk_104 (dk_at dksX7_share_2 22 rfl rfl)
theorem dX7_share_67 : decode cX7_share 67 = .ok (.iadd, 1) := dk_96 (dk_at dksX7_share_2 23 rfl rfl)
theorem dX7_share_68 : decode cX7_share 68 = .ok (.iload_n 3, 1) := dk_29 (dk_at dksX7_share_3 0 rfl rfl)
theorem dX7_share_69 : decode cX7_share 69 = .ok (.iadd, 1) := dk_96 (dk_at dksX7_share_3 1 rfl rfl)
theorem dX7_share_70 : decode cX7_share 70 = .ok (.iaload, 1) := dk_46 (dk_at dksX7_share_3 2 rfl rfl)
theorem dX7_share_71 : decode cX7_share 71 = .ok (.istore 9, 2) := dk_54 9 (dk_at dksX7_share_3 3 rfl rfl)
theorem dX7_share_73 : decode cX7_share 73 = .ok (.aload_n 0, 1) := dk_42 (dk_at dksX7_share_3 5 rfl rfl)
theorem dX7_share_74 : decode cX7_share 74 = .ok (.iload_n 1, 1) := dk_27 (dk_at dksX7_share_3 6 rfl rfl)
theorem dX7_share_75 : decode cX7_share 75 = .ok (.iload_n 2, 1) := dk_28 (dk_at dksX7_share_3 7 rfl rfl)
theorem dX7_share_76 : decode cX7_share 76 = .ok (.aload_n 0, 1) := dk_42 (dk_at dksX7_share_3 8 rfl rfl)
theorem dX7_share_77 : decode cX7_share 77 = .ok (.getfield 7, 3) := dk_180 0 7 (dk_at dksX7_share_3 9 rfl rfl)
theorem dX7_share_80 : decode cX7_share 80 = .ok (.iload_n 1, 1) := dk_27 (dk_at dksX7_share_3 12 rfl rfl)
theorem dX7_share_81 : decode cX7_share 81 = .ok (.iaload, 1) := dk_46 (dk_at dksX7_share_3 13 rfl rfl)
theorem dX7_share_82 : decode cX7_share 82 = .ok (.iconst 1, 1) := dk_4 (dk_at dksX7_share_3 14 rfl rfl)
theorem dX7_share_83 : decode cX7_share 83 = .ok (.isub, 1) := dk_100 (dk_at dksX7_share_3 15 rfl rfl)
theorem dX7_share_84 : decode cX7_share 84 = .ok (.invokevirtual 117, 3) := dk_182 0 117 (dk_at dksX7_share_3 16 rfl rfl)
theorem dX7_share_87 : decode cX7_share 87 = .ok (.iload 9, 2) := dk_21 9 (dk_at dksX7_share_3 19 rfl rfl)
theorem dX7_share_89 : decode cX7_share 89 = .ok (.iadd, 1) := dk_96 (dk_at dksX7_share_3 21 rfl rfl)
theorem dX7_share_90 : decode cX7_share 90 = .ok (.iload 8, 2) := dk_21 8 (dk_at dksX7_share_3 22 rfl rfl)
theorem dX7_share_92 : decode cX7_share 92 = .ok (.if_icmp .ge 5, 3) := dk_162 0 5 (dk_at dksX7_share_4 0 rfl rfl)
theorem dX7_share_95 : decode cX7_share 95 = .ok (.iconst 0, 1) := dk_3 (dk_at dksX7_share_4 3 rfl rfl)
theorem dX7_share_96 : decode cX7_share 96 = .ok (.ireturn, 1) := dk_172 (dk_at dksX7_share_4 4 rfl rfl)
theorem dX7_share_97 : decode cX7_share 97 = .ok (.aload_n 0, 1) := dk_42 (dk_at dksX7_share_4 5 rfl rfl)
theorem dX7_share_98 : decode cX7_share 98 = .ok (.getfield 16, 3) := dk_180 0 16 (dk_at dksX7_share_4 6 rfl rfl)
theorem dX7_share_101 : decode cX7_share 101 = .ok (.bipush 9, 2) := dk_16 9 (dk_at dksX7_share_4 9 rfl rfl)
theorem dX7_share_103 : decode cX7_share 103 = .ok (.iload_n 1, 1) := dk_27 (dk_at dksX7_share_4 11 rfl rfl)
theorem dX7_share_104 : decode cX7_share 104 = .ok (.imul, 1) := dk_104 (dk_at dksX7_share_4 12 rfl rfl)
theorem dX7_share_105 : decode cX7_share 105 = .ok (.iconst 3, 1) := dk_6 (dk_at dksX7_share_4 13 rfl rfl)
theorem dX7_share_106 : decode cX7_share 106 = .ok (.iload_n 2, 1) := dk_28 (dk_at dksX7_share_4 14 rfl rfl)
theorem dX7_share_107 : decode cX7_share 107 = .ok (.imul, 1) := dk_104 (dk_at dksX7_share_4 15 rfl rfl)
theorem dX7_share_108 : decode cX7_share 108 = .ok (.iadd, 1) := dk_96 (dk_at dksX7_share_4 16 rfl rfl)
theorem dX7_share_109 : decode cX7_share 109 = .ok (.iload_n 3, 1) := dk_29 (dk_at dksX7_share_4 17 rfl rfl)
theorem dX7_share_110 : decode cX7_share 110 = .ok (.iadd, 1) := dk_96 (dk_at dksX7_share_4 18 rfl rfl)
theorem dX7_share_111 : decode cX7_share 111 = .ok (.iload 8, 2) := dk_21 8 (dk_at dksX7_share_4 19 rfl rfl)
theorem dX7_share_113 : decode cX7_share 113 = .ok (.iastore, 1) := dk_79 (dk_at dksX7_share_4 21 rfl rfl)
theorem dX7_share_114 : decode cX7_share 114 = .ok (.aload_n 0, 1) := dk_42 (dk_at dksX7_share_4 22 rfl rfl)
theorem dX7_share_115 : decode cX7_share 115 = .ok (.iconst 0, 1) := dk_3 (dk_at dksX7_share_4 23 rfl rfl)
theorem dX7_share_116 : decode cX7_share 116 = .ok (.putfield 97, 3) := dk_181 0 97 (dk_at dksX7_share_5 0 rfl rfl)
theorem dX7_share_119 : decode cX7_share 119 = .ok (.iconst 1, 1) := dk_4 (dk_at dksX7_share_5 3 rfl rfl)
theorem dX7_share_120 : decode cX7_share 120 = .ok (.ireturn, 1) := dk_172 (dk_at dksX7_share_5 4 rfl rfl)
abbrev cX7_isShare : ByteArray := prog_42_method_4_code
def yX7_isShare : MethodName := ⟨RX7, "isShare", "(JJ)Z"⟩
def dkwX7_isShare_1 : List UInt8 := [157, 0, 7, 4, 167, 0, 4, 3, 172]
abbrev dktX7_isShare_1 : List UInt8 := dkwX7_isShare_1 ++ []
def dkwX7_isShare_0 : List UInt8 := [32, 10, 148, 155, 0, 27, 32, 20, 0, 95, 148, 157, 0, 19, 30, 9, 148, 155, 0, 13, 30, 32, 148]
abbrev dktX7_isShare_0 : List UInt8 := dkwX7_isShare_0 ++ dktX7_isShare_1
theorem dksX7_isShare_0 : cX7_isShare.data.toList.drop 0 = dktX7_isShare_0 := by decide +kernel
theorem dksX7_isShare_1 : cX7_isShare.data.toList.drop 23 = dktX7_isShare_1 := dk_seg dksX7_isShare_0 23 rfl rfl
theorem dX7_isShare_0 : decode cX7_isShare 0 = .ok (.lload_n 2, 1) := dk_32 (dk_at dksX7_isShare_0 0 rfl rfl)
theorem dX7_isShare_1 : decode cX7_isShare 1 = .ok (.lconst 1, 1) := dk_10 (dk_at dksX7_isShare_0 1 rfl rfl)
theorem dX7_isShare_2 : decode cX7_isShare 2 = .ok (.lcmp, 1) := dk_148 (dk_at dksX7_isShare_0 2 rfl rfl)
theorem dX7_isShare_3 : decode cX7_isShare 3 = .ok (.ifCond .lt 27, 3) := dk_155 0 27 (dk_at dksX7_isShare_0 3 rfl rfl)
theorem dX7_isShare_6 : decode cX7_isShare 6 = .ok (.lload_n 2, 1) := dk_32 (dk_at dksX7_isShare_0 6 rfl rfl)
theorem dX7_isShare_7 : decode cX7_isShare 7 = .ok (.ldc2_w 95, 3) := dk_20 0 95 (dk_at dksX7_isShare_0 7 rfl rfl)
theorem dX7_isShare_10 : decode cX7_isShare 10 = .ok (.lcmp, 1) := dk_148 (dk_at dksX7_isShare_0 10 rfl rfl)
theorem dX7_isShare_11 : decode cX7_isShare 11 = .ok (.ifCond .gt 19, 3) := dk_157 0 19 (dk_at dksX7_isShare_0 11 rfl rfl)
theorem dX7_isShare_14 : decode cX7_isShare 14 = .ok (.lload_n 0, 1) := dk_30 (dk_at dksX7_isShare_0 14 rfl rfl)
theorem dX7_isShare_15 : decode cX7_isShare 15 = .ok (.lconst 0, 1) := dk_9 (dk_at dksX7_isShare_0 15 rfl rfl)
theorem dX7_isShare_16 : decode cX7_isShare 16 = .ok (.lcmp, 1) := dk_148 (dk_at dksX7_isShare_0 16 rfl rfl)
theorem dX7_isShare_17 : decode cX7_isShare 17 = .ok (.ifCond .lt 13, 3) := dk_155 0 13 (dk_at dksX7_isShare_0 17 rfl rfl)
theorem dX7_isShare_20 : decode cX7_isShare 20 = .ok (.lload_n 0, 1) := dk_30 (dk_at dksX7_isShare_0 20 rfl rfl)
theorem dX7_isShare_21 : decode cX7_isShare 21 = .ok (.lload_n 2, 1) := dk_32 (dk_at dksX7_isShare_0 21 rfl rfl)
theorem dX7_isShare_22 : decode cX7_isShare 22 = .ok (.lcmp, 1) := dk_148 (dk_at dksX7_isShare_0 22 rfl rfl)
theorem dX7_isShare_23 : decode cX7_isShare 23 = .ok (.ifCond .gt 7, 3) := dk_157 0 7 (dk_at dksX7_isShare_1 0 rfl rfl)
theorem dX7_isShare_26 : decode cX7_isShare 26 = .ok (.iconst 1, 1) := dk_4 (dk_at dksX7_isShare_1 3 rfl rfl)
theorem dX7_isShare_27 : decode cX7_isShare 27 = .ok (.goto 4, 3) := dk_167 0 4 (dk_at dksX7_isShare_1 4 rfl rfl)
theorem dX7_isShare_30 : decode cX7_isShare 30 = .ok (.iconst 0, 1) := dk_3 (dk_at dksX7_isShare_1 7 rfl rfl)
theorem dX7_isShare_31 : decode cX7_isShare 31 = .ok (.ireturn, 1) := dk_172 (dk_at dksX7_isShare_1 8 rfl rfl)
abbrev cX7_crush : ByteArray := prog_42_method_10_code
def yX7_crush : MethodName := ⟨RX7, "crush", "(IIIJJ)Z"⟩
def dkwX7_crush_3 : List UInt8 := [42, 3, 181, 0, 97, 4, 172]
abbrev dktX7_crush_3 : List UInt8 := dkwX7_crush_3 ++ []
def dkwX7_crush_2 : List UInt8 := [28, 96, 29, 79, 42, 180, 0, 22, 6, 27, 104, 28, 96, 20, 0, 115, 22, 6, 109, 22, 4, 105, 136, 79]
abbrev dktX7_crush_2 : List UInt8 := dkwX7_crush_2 ++ dktX7_crush_3
def dkwX7_crush_1 : List UInt8 := [28, 29, 159, 0, 13, 22, 4, 22, 6, 184, 0, 111, 154, 0, 5, 3, 172, 42, 180, 0, 19, 6, 27, 104]
abbrev dktX7_crush_1 : List UInt8 := dkwX7_crush_1 ++ dktX7_crush_2
def dkwX7_crush_0 : List UInt8 := [42, 27, 182, 0, 104, 153, 0, 34, 42, 28, 182, 0, 108, 153, 0, 26, 42, 29, 182, 0, 108, 153, 0, 18]
abbrev dktX7_crush_0 : List UInt8 := dkwX7_crush_0 ++ dktX7_crush_1
theorem dksX7_crush_0 : cX7_crush.data.toList.drop 0 = dktX7_crush_0 := by decide +kernel
theorem dksX7_crush_1 : cX7_crush.data.toList.drop 24 = dktX7_crush_1 := dk_seg dksX7_crush_0 24 rfl rfl
theorem dksX7_crush_2 : cX7_crush.data.toList.drop 48 = dktX7_crush_2 := dk_seg dksX7_crush_1 24 rfl rfl
theorem dksX7_crush_3 : cX7_crush.data.toList.drop 72 = dktX7_crush_3 := dk_seg dksX7_crush_2 24 rfl rfl
theorem dX7_crush_0 : decode cX7_crush 0 = .ok (.aload_n 0, 1) := dk_42 (dk_at dksX7_crush_0 0 rfl rfl)
theorem dX7_crush_1 : decode cX7_crush 1 = .ok (.iload_n 1, 1) := dk_27 (dk_at dksX7_crush_0 1 rfl rfl)
theorem dX7_crush_2 : decode cX7_crush 2 = .ok (.invokevirtual 104, 3) := dk_182 0 104 (dk_at dksX7_crush_0 2 rfl rfl)
theorem dX7_crush_5 : decode cX7_crush 5 = .ok (.ifCond .eq 34, 3) := dk_153 0 34 (dk_at dksX7_crush_0 5 rfl rfl)
theorem dX7_crush_8 : decode cX7_crush 8 = .ok (.aload_n 0, 1) := dk_42 (dk_at dksX7_crush_0 8 rfl rfl)
theorem dX7_crush_9 : decode cX7_crush 9 = .ok (.iload_n 2, 1) := dk_28 (dk_at dksX7_crush_0 9 rfl rfl)
theorem dX7_crush_10 : decode cX7_crush 10 = .ok (.invokevirtual 108, 3) := dk_182 0 108 (dk_at dksX7_crush_0 10 rfl rfl)
theorem dX7_crush_13 : decode cX7_crush 13 = .ok (.ifCond .eq 26, 3) := dk_153 0 26 (dk_at dksX7_crush_0 13 rfl rfl)
theorem dX7_crush_16 : decode cX7_crush 16 = .ok (.aload_n 0, 1) := dk_42 (dk_at dksX7_crush_0 16 rfl rfl)
theorem dX7_crush_17 : decode cX7_crush 17 = .ok (.iload_n 3, 1) := dk_29 (dk_at dksX7_crush_0 17 rfl rfl)
theorem dX7_crush_18 : decode cX7_crush 18 = .ok (.invokevirtual 108, 3) := dk_182 0 108 (dk_at dksX7_crush_0 18 rfl rfl)
theorem dX7_crush_21 : decode cX7_crush 21 = .ok (.ifCond .eq 18, 3) := dk_153 0 18 (dk_at dksX7_crush_0 21 rfl rfl)
theorem dX7_crush_24 : decode cX7_crush 24 = .ok (.iload_n 2, 1) := dk_28 (dk_at dksX7_crush_1 0 rfl rfl)
theorem dX7_crush_25 : decode cX7_crush 25 = .ok (.iload_n 3, 1) := dk_29 (dk_at dksX7_crush_1 1 rfl rfl)
theorem dX7_crush_26 : decode cX7_crush 26 = .ok (.if_icmp .eq 13, 3) := dk_159 0 13 (dk_at dksX7_crush_1 2 rfl rfl)
theorem dX7_crush_29 : decode cX7_crush 29 = .ok (.lload 4, 2) := dk_22 4 (dk_at dksX7_crush_1 5 rfl rfl)
theorem dX7_crush_31 : decode cX7_crush 31 = .ok (.lload 6, 2) := dk_22 6 (dk_at dksX7_crush_1 7 rfl rfl)
theorem dX7_crush_33 : decode cX7_crush 33 = .ok (.invokestatic 111, 3) := dk_184 0 111 (dk_at dksX7_crush_1 9 rfl rfl)
theorem dX7_crush_36 : decode cX7_crush 36 = .ok (.ifCond .ne 5, 3) := dk_154 0 5 (dk_at dksX7_crush_1 12 rfl rfl)
theorem dX7_crush_39 : decode cX7_crush 39 = .ok (.iconst 0, 1) := dk_3 (dk_at dksX7_crush_1 15 rfl rfl)
theorem dX7_crush_40 : decode cX7_crush 40 = .ok (.ireturn, 1) := dk_172 (dk_at dksX7_crush_1 16 rfl rfl)
theorem dX7_crush_41 : decode cX7_crush 41 = .ok (.aload_n 0, 1) := dk_42 (dk_at dksX7_crush_1 17 rfl rfl)
theorem dX7_crush_42 : decode cX7_crush 42 = .ok (.getfield 19, 3) := dk_180 0 19 (dk_at dksX7_crush_1 18 rfl rfl)
theorem dX7_crush_45 : decode cX7_crush 45 = .ok (.iconst 3, 1) := dk_6 (dk_at dksX7_crush_1 21 rfl rfl)
theorem dX7_crush_46 : decode cX7_crush 46 = .ok (.iload_n 1, 1) := dk_27 (dk_at dksX7_crush_1 22 rfl rfl)
theorem dX7_crush_47 : decode cX7_crush 47 = .ok (.imul, 1) := dk_104 (dk_at dksX7_crush_1 23 rfl rfl)
theorem dX7_crush_48 : decode cX7_crush 48 = .ok (.iload_n 2, 1) := dk_28 (dk_at dksX7_crush_2 0 rfl rfl)
theorem dX7_crush_49 : decode cX7_crush 49 = .ok (.iadd, 1) := dk_96 (dk_at dksX7_crush_2 1 rfl rfl)
theorem dX7_crush_50 : decode cX7_crush 50 = .ok (.iload_n 3, 1) := dk_29 (dk_at dksX7_crush_2 2 rfl rfl)
theorem dX7_crush_51 : decode cX7_crush 51 = .ok (.iastore, 1) := dk_79 (dk_at dksX7_crush_2 3 rfl rfl)
theorem dX7_crush_52 : decode cX7_crush 52 = .ok (.aload_n 0, 1) := dk_42 (dk_at dksX7_crush_2 4 rfl rfl)
theorem dX7_crush_53 : decode cX7_crush 53 = .ok (.getfield 22, 3) := dk_180 0 22 (dk_at dksX7_crush_2 5 rfl rfl)
theorem dX7_crush_56 : decode cX7_crush 56 = .ok (.iconst 3, 1) := dk_6 (dk_at dksX7_crush_2 8 rfl rfl)
theorem dX7_crush_57 : decode cX7_crush 57 = .ok (.iload_n 1, 1) := dk_27 (dk_at dksX7_crush_2 9 rfl rfl)
theorem dX7_crush_58 : decode cX7_crush 58 = .ok (.imul, 1) := dk_104 (dk_at dksX7_crush_2 10 rfl rfl)
theorem dX7_crush_59 : decode cX7_crush 59 = .ok (.iload_n 2, 1) := dk_28 (dk_at dksX7_crush_2 11 rfl rfl)
theorem dX7_crush_60 : decode cX7_crush 60 = .ok (.iadd, 1) := dk_96 (dk_at dksX7_crush_2 12 rfl rfl)
theorem dX7_crush_61 : decode cX7_crush 61 = .ok (.ldc2_w 115, 3) := dk_20 0 115 (dk_at dksX7_crush_2 13 rfl rfl)
theorem dX7_crush_64 : decode cX7_crush 64 = .ok (.lload 6, 2) := dk_22 6 (dk_at dksX7_crush_2 16 rfl rfl)
theorem dX7_crush_66 : decode cX7_crush 66 = .ok (.ldiv, 1) := dk_109 (dk_at dksX7_crush_2 18 rfl rfl)
theorem dX7_crush_67 : decode cX7_crush 67 = .ok (.lload 4, 2) := dk_22 4 (dk_at dksX7_crush_2 19 rfl rfl)
theorem dX7_crush_69 : decode cX7_crush 69 = .ok (.lmul, 1) := dk_105 (dk_at dksX7_crush_2 21 rfl rfl)
theorem dX7_crush_70 : decode cX7_crush 70 = .ok (.l2i, 1) := dk_136 (dk_at dksX7_crush_2 22 rfl rfl)
theorem dX7_crush_71 : decode cX7_crush 71 = .ok (.iastore, 1) := dk_79 (dk_at dksX7_crush_2 23 rfl rfl)
theorem dX7_crush_72 : decode cX7_crush 72 = .ok (.aload_n 0, 1) := dk_42 (dk_at dksX7_crush_3 0 rfl rfl)
theorem dX7_crush_73 : decode cX7_crush 73 = .ok (.iconst 0, 1) := dk_3 (dk_at dksX7_crush_3 1 rfl rfl)
theorem dX7_crush_74 : decode cX7_crush 74 = .ok (.putfield 97, 3) := dk_181 0 97 (dk_at dksX7_crush_3 2 rfl rfl)
theorem dX7_crush_77 : decode cX7_crush 77 = .ok (.iconst 1, 1) := dk_4 (dk_at dksX7_crush_3 5 rfl rfl)
theorem dX7_crush_78 : decode cX7_crush 78 = .ok (.ireturn, 1) := dk_172 (dk_at dksX7_crush_3 6 rfl rfl)
abbrev cX7_load : ByteArray := prog_42_method_25_code
def yX7_load : MethodName := ⟨RX7, "load", "(II)J"⟩
def dkwX7_load_2 : List UInt8 := [173]
abbrev dktX7_load_2 : List UInt8 := dkwX7_load_2 ++ []
def dkwX7_load_1 : List UInt8 := [154, 0, 7, 20, 0, 213, 173, 42, 27, 42, 180, 0, 52, 182, 0, 224, 42, 180, 0, 52, 28, 182, 0, 209]
abbrev dktX7_load_1 : List UInt8 := dkwX7_load_1 ++ dktX7_load_2
def dkwX7_load_0 : List UInt8 := [42, 180, 0, 163, 153, 0, 22, 27, 155, 0, 18, 27, 42, 180, 0, 174, 162, 0, 10, 28, 184, 0, 206]
abbrev dktX7_load_0 : List UInt8 := dkwX7_load_0 ++ dktX7_load_1
theorem dksX7_load_0 : cX7_load.data.toList.drop 0 = dktX7_load_0 := by decide +kernel
theorem dksX7_load_1 : cX7_load.data.toList.drop 23 = dktX7_load_1 := dk_seg dksX7_load_0 23 rfl rfl
theorem dksX7_load_2 : cX7_load.data.toList.drop 47 = dktX7_load_2 := dk_seg dksX7_load_1 24 rfl rfl
theorem dX7_load_0 : decode cX7_load 0 = .ok (.aload_n 0, 1) := dk_42 (dk_at dksX7_load_0 0 rfl rfl)
theorem dX7_load_1 : decode cX7_load 1 = .ok (.getfield 163, 3) := dk_180 0 163 (dk_at dksX7_load_0 1 rfl rfl)
theorem dX7_load_4 : decode cX7_load 4 = .ok (.ifCond .eq 22, 3) := dk_153 0 22 (dk_at dksX7_load_0 4 rfl rfl)
theorem dX7_load_7 : decode cX7_load 7 = .ok (.iload_n 1, 1) := dk_27 (dk_at dksX7_load_0 7 rfl rfl)
theorem dX7_load_8 : decode cX7_load 8 = .ok (.ifCond .lt 18, 3) := dk_155 0 18 (dk_at dksX7_load_0 8 rfl rfl)
theorem dX7_load_11 : decode cX7_load 11 = .ok (.iload_n 1, 1) := dk_27 (dk_at dksX7_load_0 11 rfl rfl)
theorem dX7_load_12 : decode cX7_load 12 = .ok (.aload_n 0, 1) := dk_42 (dk_at dksX7_load_0 12 rfl rfl)
theorem dX7_load_13 : decode cX7_load 13 = .ok (.getfield 174, 3) := dk_180 0 174 (dk_at dksX7_load_0 13 rfl rfl)
theorem dX7_load_16 : decode cX7_load 16 = .ok (.if_icmp .ge 10, 3) := dk_162 0 10 (dk_at dksX7_load_0 16 rfl rfl)
theorem dX7_load_19 : decode cX7_load 19 = .ok (.iload_n 2, 1) := dk_28 (dk_at dksX7_load_0 19 rfl rfl)
theorem dX7_load_20 : decode cX7_load 20 = .ok (.invokestatic 206, 3) := dk_184 0 206 (dk_at dksX7_load_0 20 rfl rfl)
theorem dX7_load_23 : decode cX7_load 23 = .ok (.ifCond .ne 7, 3) := dk_154 0 7 (dk_at dksX7_load_1 0 rfl rfl)
theorem dX7_load_26 : decode cX7_load 26 = .ok (.ldc2_w 213, 3) := dk_20 0 213 (dk_at dksX7_load_1 3 rfl rfl)
theorem dX7_load_29 : decode cX7_load 29 = .ok (.lreturn, 1) := dk_173 (dk_at dksX7_load_1 6 rfl rfl)
theorem dX7_load_30 : decode cX7_load 30 = .ok (.aload_n 0, 1) := dk_42 (dk_at dksX7_load_1 7 rfl rfl)
theorem dX7_load_31 : decode cX7_load 31 = .ok (.iload_n 1, 1) := dk_27 (dk_at dksX7_load_1 8 rfl rfl)
theorem dX7_load_32 : decode cX7_load 32 = .ok (.aload_n 0, 1) := dk_42 (dk_at dksX7_load_1 9 rfl rfl)
theorem dX7_load_33 : decode cX7_load 33 = .ok (.getfield 52, 3) := dk_180 0 52 (dk_at dksX7_load_1 10 rfl rfl)
theorem dX7_load_36 : decode cX7_load 36 = .ok (.invokevirtual 224, 3) := dk_182 0 224 (dk_at dksX7_load_1 13 rfl rfl)
theorem dX7_load_39 : decode cX7_load 39 = .ok (.aload_n 0, 1) := dk_42 (dk_at dksX7_load_1 16 rfl rfl)
theorem dX7_load_40 : decode cX7_load 40 = .ok (.getfield 52, 3) := dk_180 0 52 (dk_at dksX7_load_1 17 rfl rfl)
theorem dX7_load_43 : decode cX7_load 43 = .ok (.iload_n 2, 1) := dk_28 (dk_at dksX7_load_1 20 rfl rfl)
theorem dX7_load_44 : decode cX7_load 44 = .ok (.invokevirtual 209, 3) := dk_182 0 209 (dk_at dksX7_load_1 21 rfl rfl)
theorem dX7_load_47 : decode cX7_load 47 = .ok (.lreturn, 1) := dk_173 (dk_at dksX7_load_2 0 rfl rfl)
abbrev cX7_loadOf : ByteArray := prog_42_method_24_code
def yX7_loadOf : MethodName := ⟨RX7, "loadOf", "(ILWasteHouse$ShareSolve$Amount;)V"⟩
def dkwX7_loadOf_2 : List UInt8 := [42, 180, 0, 47, 6, 27, 104, 29, 96, 50, 180, 0, 215, 3, 182, 0, 221, 132, 3, 1, 167, 255, 227, 177]
abbrev dktX7_loadOf_2 : List UInt8 := dkwX7_loadOf_2 ++ []
def dkwX7_loadOf_1 : List UInt8 := [180, 0, 47, 6, 27, 104, 50, 180, 0, 218, 182, 0, 155, 4, 62, 29, 42, 180, 0, 88, 162, 0, 27, 44]
abbrev dktX7_loadOf_1 : List UInt8 := dkwX7_loadOf_1 ++ dktX7_loadOf_2
def dkwX7_loadOf_0 : List UInt8 := [44, 180, 0, 215, 42, 180, 0, 47, 6, 27, 104, 50, 180, 0, 215, 182, 0, 155, 44, 180, 0, 218, 42]
abbrev dktX7_loadOf_0 : List UInt8 := dkwX7_loadOf_0 ++ dktX7_loadOf_1
theorem dksX7_loadOf_0 : cX7_loadOf.data.toList.drop 0 = dktX7_loadOf_0 := by decide +kernel
theorem dksX7_loadOf_1 : cX7_loadOf.data.toList.drop 23 = dktX7_loadOf_1 := dk_seg dksX7_loadOf_0 23 rfl rfl
theorem dksX7_loadOf_2 : cX7_loadOf.data.toList.drop 47 = dktX7_loadOf_2 := dk_seg dksX7_loadOf_1 24 rfl rfl
theorem dX7_loadOf_0 : decode cX7_loadOf 0 = .ok (.aload_n 2, 1) := dk_44 (dk_at dksX7_loadOf_0 0 rfl rfl)
theorem dX7_loadOf_1 : decode cX7_loadOf 1 = .ok (.getfield 215, 3) := dk_180 0 215 (dk_at dksX7_loadOf_0 1 rfl rfl)
theorem dX7_loadOf_4 : decode cX7_loadOf 4 = .ok (.aload_n 0, 1) := dk_42 (dk_at dksX7_loadOf_0 4 rfl rfl)
theorem dX7_loadOf_5 : decode cX7_loadOf 5 = .ok (.getfield 47, 3) := dk_180 0 47 (dk_at dksX7_loadOf_0 5 rfl rfl)
theorem dX7_loadOf_8 : decode cX7_loadOf 8 = .ok (.iconst 3, 1) := dk_6 (dk_at dksX7_loadOf_0 8 rfl rfl)
theorem dX7_loadOf_9 : decode cX7_loadOf 9 = .ok (.iload_n 1, 1) := dk_27 (dk_at dksX7_loadOf_0 9 rfl rfl)
theorem dX7_loadOf_10 : decode cX7_loadOf 10 = .ok (.imul, 1) := dk_104 (dk_at dksX7_loadOf_0 10 rfl rfl)
theorem dX7_loadOf_11 : decode cX7_loadOf 11 = .ok (.aaload, 1) := dk_50 (dk_at dksX7_loadOf_0 11 rfl rfl)
theorem dX7_loadOf_12 : decode cX7_loadOf 12 = .ok (.getfield 215, 3) := dk_180 0 215 (dk_at dksX7_loadOf_0 12 rfl rfl)
theorem dX7_loadOf_15 : decode cX7_loadOf 15 = .ok (.invokevirtual 155, 3) := dk_182 0 155 (dk_at dksX7_loadOf_0 15 rfl rfl)
theorem dX7_loadOf_18 : decode cX7_loadOf 18 = .ok (.aload_n 2, 1) := dk_44 (dk_at dksX7_loadOf_0 18 rfl rfl)
theorem dX7_loadOf_19 : decode cX7_loadOf 19 = .ok (.getfield 218, 3) := dk_180 0 218 (dk_at dksX7_loadOf_0 19 rfl rfl)
theorem dX7_loadOf_22 : decode cX7_loadOf 22 = .ok (.aload_n 0, 1) := dk_42 (dk_at dksX7_loadOf_0 22 rfl rfl)
theorem dX7_loadOf_23 : decode cX7_loadOf 23 = .ok (.getfield 47, 3) := dk_180 0 47 (dk_at dksX7_loadOf_1 0 rfl rfl)
theorem dX7_loadOf_26 : decode cX7_loadOf 26 = .ok (.iconst 3, 1) := dk_6 (dk_at dksX7_loadOf_1 3 rfl rfl)
theorem dX7_loadOf_27 : decode cX7_loadOf 27 = .ok (.iload_n 1, 1) := dk_27 (dk_at dksX7_loadOf_1 4 rfl rfl)
theorem dX7_loadOf_28 : decode cX7_loadOf 28 = .ok (.imul, 1) := dk_104 (dk_at dksX7_loadOf_1 5 rfl rfl)
theorem dX7_loadOf_29 : decode cX7_loadOf 29 = .ok (.aaload, 1) := dk_50 (dk_at dksX7_loadOf_1 6 rfl rfl)
theorem dX7_loadOf_30 : decode cX7_loadOf 30 = .ok (.getfield 218, 3) := dk_180 0 218 (dk_at dksX7_loadOf_1 7 rfl rfl)
theorem dX7_loadOf_33 : decode cX7_loadOf 33 = .ok (.invokevirtual 155, 3) := dk_182 0 155 (dk_at dksX7_loadOf_1 10 rfl rfl)
theorem dX7_loadOf_36 : decode cX7_loadOf 36 = .ok (.iconst 1, 1) := dk_4 (dk_at dksX7_loadOf_1 13 rfl rfl)
theorem dX7_loadOf_37 : decode cX7_loadOf 37 = .ok (.istore_n 3, 1) := dk_62 (dk_at dksX7_loadOf_1 14 rfl rfl)
theorem dX7_loadOf_38 : decode cX7_loadOf 38 = .ok (.iload_n 3, 1) := dk_29 (dk_at dksX7_loadOf_1 15 rfl rfl)
theorem dX7_loadOf_39 : decode cX7_loadOf 39 = .ok (.aload_n 0, 1) := dk_42 (dk_at dksX7_loadOf_1 16 rfl rfl)
theorem dX7_loadOf_40 : decode cX7_loadOf 40 = .ok (.getfield 88, 3) := dk_180 0 88 (dk_at dksX7_loadOf_1 17 rfl rfl)
theorem dX7_loadOf_43 : decode cX7_loadOf 43 = .ok (.if_icmp .ge 27, 3) := dk_162 0 27 (dk_at dksX7_loadOf_1 20 rfl rfl)
theorem dX7_loadOf_46 : decode cX7_loadOf 46 = .ok (.aload_n 2, 1) := dk_44 (dk_at dksX7_loadOf_1 23 rfl rfl)
theorem dX7_loadOf_47 : decode cX7_loadOf 47 = .ok (.aload_n 0, 1) := dk_42 (dk_at dksX7_loadOf_2 0 rfl rfl)
theorem dX7_loadOf_48 : decode cX7_loadOf 48 = .ok (.getfield 47, 3) := dk_180 0 47 (dk_at dksX7_loadOf_2 1 rfl rfl)
theorem dX7_loadOf_51 : decode cX7_loadOf 51 = .ok (.iconst 3, 1) := dk_6 (dk_at dksX7_loadOf_2 4 rfl rfl)
theorem dX7_loadOf_52 : decode cX7_loadOf 52 = .ok (.iload_n 1, 1) := dk_27 (dk_at dksX7_loadOf_2 5 rfl rfl)
theorem dX7_loadOf_53 : decode cX7_loadOf 53 = .ok (.imul, 1) := dk_104 (dk_at dksX7_loadOf_2 6 rfl rfl)
theorem dX7_loadOf_54 : decode cX7_loadOf 54 = .ok (.iload_n 3, 1) := dk_29 (dk_at dksX7_loadOf_2 7 rfl rfl)
theorem dX7_loadOf_55 : decode cX7_loadOf 55 = .ok (.iadd, 1) := dk_96 (dk_at dksX7_loadOf_2 8 rfl rfl)
theorem dX7_loadOf_56 : decode cX7_loadOf 56 = .ok (.aaload, 1) := dk_50 (dk_at dksX7_loadOf_2 9 rfl rfl)
theorem dX7_loadOf_57 : decode cX7_loadOf 57 = .ok (.getfield 215, 3) := dk_180 0 215 (dk_at dksX7_loadOf_2 10 rfl rfl)
theorem dX7_loadOf_60 : decode cX7_loadOf 60 = .ok (.iconst 0, 1) := dk_3 (dk_at dksX7_loadOf_2 13 rfl rfl)
theorem dX7_loadOf_61 : decode cX7_loadOf 61 = .ok (.invokevirtual 221, 3) := dk_182 0 221 (dk_at dksX7_loadOf_2 14 rfl rfl)
theorem dX7_loadOf_64 : decode cX7_loadOf 64 = .ok (.iinc 3 1, 3) := dk_132 3 1 (dk_at dksX7_loadOf_2 17 rfl rfl)
theorem dX7_loadOf_67 : decode cX7_loadOf 67 = .ok (.goto (-29), 3) := dk_167 255 227 (dk_at dksX7_loadOf_2 20 rfl rfl)
theorem dX7_loadOf_70 : decode cX7_loadOf 70 = .ok (.return_, 1) := dk_177 (dk_at dksX7_loadOf_2 23 rfl rfl)
abbrev cX7_span : ByteArray := prog_42_method_12_code
def yX7_span : MethodName := ⟨RX7, "span", "(IJJ)Z"⟩
def dkwX7_span_2 : List UInt8 := [42, 180, 0, 35, 27, 22, 4, 136, 79, 4, 172]
abbrev dktX7_span_2 : List UInt8 := dkwX7_span_2 ++ []
def dkwX7_span_1 : List UInt8 := [20, 0, 123, 148, 158, 0, 5, 3, 172, 42, 180, 0, 28, 27, 4, 84, 42, 180, 0, 32, 27, 32, 136, 79]
abbrev dktX7_span_1 : List UInt8 := dkwX7_span_1 ++ dktX7_span_2
def dkwX7_span_0 : List UInt8 := [42, 27, 182, 0, 104, 153, 0, 25, 32, 9, 148, 155, 0, 19, 32, 22, 4, 148, 157, 0, 12, 22, 4]
abbrev dktX7_span_0 : List UInt8 := dkwX7_span_0 ++ dktX7_span_1
theorem dksX7_span_0 : cX7_span.data.toList.drop 0 = dktX7_span_0 := by decide +kernel
theorem dksX7_span_1 : cX7_span.data.toList.drop 23 = dktX7_span_1 := dk_seg dksX7_span_0 23 rfl rfl
theorem dksX7_span_2 : cX7_span.data.toList.drop 47 = dktX7_span_2 := dk_seg dksX7_span_1 24 rfl rfl
theorem dX7_span_0 : decode cX7_span 0 = .ok (.aload_n 0, 1) := dk_42 (dk_at dksX7_span_0 0 rfl rfl)
theorem dX7_span_1 : decode cX7_span 1 = .ok (.iload_n 1, 1) := dk_27 (dk_at dksX7_span_0 1 rfl rfl)
theorem dX7_span_2 : decode cX7_span 2 = .ok (.invokevirtual 104, 3) := dk_182 0 104 (dk_at dksX7_span_0 2 rfl rfl)
theorem dX7_span_5 : decode cX7_span 5 = .ok (.ifCond .eq 25, 3) := dk_153 0 25 (dk_at dksX7_span_0 5 rfl rfl)
theorem dX7_span_8 : decode cX7_span 8 = .ok (.lload_n 2, 1) := dk_32 (dk_at dksX7_span_0 8 rfl rfl)
theorem dX7_span_9 : decode cX7_span 9 = .ok (.lconst 0, 1) := dk_9 (dk_at dksX7_span_0 9 rfl rfl)
theorem dX7_span_10 : decode cX7_span 10 = .ok (.lcmp, 1) := dk_148 (dk_at dksX7_span_0 10 rfl rfl)
theorem dX7_span_11 : decode cX7_span 11 = .ok (.ifCond .lt 19, 3) := dk_155 0 19 (dk_at dksX7_span_0 11 rfl rfl)
theorem dX7_span_14 : decode cX7_span 14 = .ok (.lload_n 2, 1) := dk_32 (dk_at dksX7_span_0 14 rfl rfl)
theorem dX7_span_15 : decode cX7_span 15 = .ok (.lload 4, 2) := dk_22 4 (dk_at dksX7_span_0 15 rfl rfl)
theorem dX7_span_17 : decode cX7_span 17 = .ok (.lcmp, 1) := dk_148 (dk_at dksX7_span_0 17 rfl rfl)
theorem dX7_span_18 : decode cX7_span 18 = .ok (.ifCond .gt 12, 3) := dk_157 0 12 (dk_at dksX7_span_0 18 rfl rfl)
theorem dX7_span_21 : decode cX7_span 21 = .ok (.lload 4, 2) := dk_22 4 (dk_at dksX7_span_0 21 rfl rfl)
theorem dX7_span_23 : decode cX7_span 23 = .ok (.ldc2_w 123, 3) := dk_20 0 123 (dk_at dksX7_span_1 0 rfl rfl)
theorem dX7_span_26 : decode cX7_span 26 = .ok (.lcmp, 1) := dk_148 (dk_at dksX7_span_1 3 rfl rfl)
theorem dX7_span_27 : decode cX7_span 27 = .ok (.ifCond .le 5, 3) := dk_158 0 5 (dk_at dksX7_span_1 4 rfl rfl)
theorem dX7_span_30 : decode cX7_span 30 = .ok (.iconst 0, 1) := dk_3 (dk_at dksX7_span_1 7 rfl rfl)
theorem dX7_span_31 : decode cX7_span 31 = .ok (.ireturn, 1) := dk_172 (dk_at dksX7_span_1 8 rfl rfl)
theorem dX7_span_32 : decode cX7_span 32 = .ok (.aload_n 0, 1) := dk_42 (dk_at dksX7_span_1 9 rfl rfl)
theorem dX7_span_33 : decode cX7_span 33 = .ok (.getfield 28, 3) := dk_180 0 28 (dk_at dksX7_span_1 10 rfl rfl)
theorem dX7_span_36 : decode cX7_span 36 = .ok (.iload_n 1, 1) := dk_27 (dk_at dksX7_span_1 13 rfl rfl)
theorem dX7_span_37 : decode cX7_span 37 = .ok (.iconst 1, 1) := dk_4 (dk_at dksX7_span_1 14 rfl rfl)
theorem dX7_span_38 : decode cX7_span 38 = .ok (.bastore, 1) := dk_84 (dk_at dksX7_span_1 15 rfl rfl)
theorem dX7_span_39 : decode cX7_span 39 = .ok (.aload_n 0, 1) := dk_42 (dk_at dksX7_span_1 16 rfl rfl)
theorem dX7_span_40 : decode cX7_span 40 = .ok (.getfield 32, 3) := dk_180 0 32 (dk_at dksX7_span_1 17 rfl rfl)
theorem dX7_span_43 : decode cX7_span 43 = .ok (.iload_n 1, 1) := dk_27 (dk_at dksX7_span_1 20 rfl rfl)
theorem dX7_span_44 : decode cX7_span 44 = .ok (.lload_n 2, 1) := dk_32 (dk_at dksX7_span_1 21 rfl rfl)
theorem dX7_span_45 : decode cX7_span 45 = .ok (.l2i, 1) := dk_136 (dk_at dksX7_span_1 22 rfl rfl)
theorem dX7_span_46 : decode cX7_span 46 = .ok (.iastore, 1) := dk_79 (dk_at dksX7_span_1 23 rfl rfl)
theorem dX7_span_47 : decode cX7_span 47 = .ok (.aload_n 0, 1) := dk_42 (dk_at dksX7_span_2 0 rfl rfl)
theorem dX7_span_48 : decode cX7_span 48 = .ok (.getfield 35, 3) := dk_180 0 35 (dk_at dksX7_span_2 1 rfl rfl)
theorem dX7_span_51 : decode cX7_span 51 = .ok (.iload_n 1, 1) := dk_27 (dk_at dksX7_span_2 4 rfl rfl)
theorem dX7_span_52 : decode cX7_span 52 = .ok (.lload 4, 2) := dk_22 4 (dk_at dksX7_span_2 5 rfl rfl)
theorem dX7_span_54 : decode cX7_span 54 = .ok (.l2i, 1) := dk_136 (dk_at dksX7_span_2 7 rfl rfl)
theorem dX7_span_55 : decode cX7_span 55 = .ok (.iastore, 1) := dk_79 (dk_at dksX7_span_2 8 rfl rfl)
theorem dX7_span_56 : decode cX7_span 56 = .ok (.iconst 1, 1) := dk_4 (dk_at dksX7_span_2 9 rfl rfl)
theorem dX7_span_57 : decode cX7_span 57 = .ok (.ireturn, 1) := dk_172 (dk_at dksX7_span_2 10 rfl rfl)
abbrev cX7_over : ByteArray := prog_42_method_26_code
def yX7_over : MethodName := ⟨RX7, "over", "(I)I"⟩
def dkwX7_over_3 : List UInt8 := [27, 160, 0, 5, 29, 172, 132, 2, 1, 132, 3, 1, 167, 255, 178, 2, 172]
abbrev dktX7_over_3 : List UInt8 := dkwX7_over_3 ++ []
def dkwX7_over_2 : List UInt8 := [46, 182, 0, 228, 155, 0, 19, 42, 180, 0, 52, 42, 180, 0, 35, 29, 46, 182, 0, 228, 158, 0, 13, 28]
abbrev dktX7_over_2 : List UInt8 := dkwX7_over_2 ++ dktX7_over_3
def dkwX7_over_1 : List UInt8 := [180, 0, 52, 182, 0, 224, 42, 180, 0, 28, 29, 51, 153, 0, 45, 42, 180, 0, 52, 42, 180, 0, 32, 29]
abbrev dktX7_over_1 : List UInt8 := dkwX7_over_1 ++ dktX7_over_2
def dkwX7_over_0 : List UInt8 := [3, 61, 3, 62, 29, 42, 180, 0, 174, 162, 0, 76, 42, 180, 0, 163, 153, 0, 69, 42, 29, 42]
abbrev dktX7_over_0 : List UInt8 := dkwX7_over_0 ++ dktX7_over_1
theorem dksX7_over_0 : cX7_over.data.toList.drop 0 = dktX7_over_0 := by decide +kernel
theorem dksX7_over_1 : cX7_over.data.toList.drop 22 = dktX7_over_1 := dk_seg dksX7_over_0 22 rfl rfl
theorem dksX7_over_2 : cX7_over.data.toList.drop 46 = dktX7_over_2 := dk_seg dksX7_over_1 24 rfl rfl
theorem dksX7_over_3 : cX7_over.data.toList.drop 70 = dktX7_over_3 := dk_seg dksX7_over_2 24 rfl rfl
theorem dX7_over_0 : decode cX7_over 0 = .ok (.iconst 0, 1) := dk_3 (dk_at dksX7_over_0 0 rfl rfl)
theorem dX7_over_1 : decode cX7_over 1 = .ok (.istore_n 2, 1) := dk_61 (dk_at dksX7_over_0 1 rfl rfl)
theorem dX7_over_2 : decode cX7_over 2 = .ok (.iconst 0, 1) := dk_3 (dk_at dksX7_over_0 2 rfl rfl)
theorem dX7_over_3 : decode cX7_over 3 = .ok (.istore_n 3, 1) := dk_62 (dk_at dksX7_over_0 3 rfl rfl)
theorem dX7_over_4 : decode cX7_over 4 = .ok (.iload_n 3, 1) := dk_29 (dk_at dksX7_over_0 4 rfl rfl)
theorem dX7_over_5 : decode cX7_over 5 = .ok (.aload_n 0, 1) := dk_42 (dk_at dksX7_over_0 5 rfl rfl)
theorem dX7_over_6 : decode cX7_over 6 = .ok (.getfield 174, 3) := dk_180 0 174 (dk_at dksX7_over_0 6 rfl rfl)
theorem dX7_over_9 : decode cX7_over 9 = .ok (.if_icmp .ge 76, 3) := dk_162 0 76 (dk_at dksX7_over_0 9 rfl rfl)
theorem dX7_over_12 : decode cX7_over 12 = .ok (.aload_n 0, 1) := dk_42 (dk_at dksX7_over_0 12 rfl rfl)
theorem dX7_over_13 : decode cX7_over 13 = .ok (.getfield 163, 3) := dk_180 0 163 (dk_at dksX7_over_0 13 rfl rfl)
theorem dX7_over_16 : decode cX7_over 16 = .ok (.ifCond .eq 69, 3) := dk_153 0 69 (dk_at dksX7_over_0 16 rfl rfl)
theorem dX7_over_19 : decode cX7_over 19 = .ok (.aload_n 0, 1) := dk_42 (dk_at dksX7_over_0 19 rfl rfl)
theorem dX7_over_20 : decode cX7_over 20 = .ok (.iload_n 3, 1) := dk_29 (dk_at dksX7_over_0 20 rfl rfl)
theorem dX7_over_21 : decode cX7_over 21 = .ok (.aload_n 0, 1) := dk_42 (dk_at dksX7_over_0 21 rfl rfl)
theorem dX7_over_22 : decode cX7_over 22 = .ok (.getfield 52, 3) := dk_180 0 52 (dk_at dksX7_over_1 0 rfl rfl)
theorem dX7_over_25 : decode cX7_over 25 = .ok (.invokevirtual 224, 3) := dk_182 0 224 (dk_at dksX7_over_1 3 rfl rfl)
theorem dX7_over_28 : decode cX7_over 28 = .ok (.aload_n 0, 1) := dk_42 (dk_at dksX7_over_1 6 rfl rfl)
theorem dX7_over_29 : decode cX7_over 29 = .ok (.getfield 28, 3) := dk_180 0 28 (dk_at dksX7_over_1 7 rfl rfl)
theorem dX7_over_32 : decode cX7_over 32 = .ok (.iload_n 3, 1) := dk_29 (dk_at dksX7_over_1 10 rfl rfl)
theorem dX7_over_33 : decode cX7_over 33 = .ok (.baload, 1) := dk_51 (dk_at dksX7_over_1 11 rfl rfl)
theorem dX7_over_34 : decode cX7_over 34 = .ok (.ifCond .eq 45, 3) := dk_153 0 45 (dk_at dksX7_over_1 12 rfl rfl)
theorem dX7_over_37 : decode cX7_over 37 = .ok (.aload_n 0, 1) := dk_42 (dk_at dksX7_over_1 15 rfl rfl)
theorem dX7_over_38 : decode cX7_over 38 = .ok (.getfield 52, 3) := dk_180 0 52 (dk_at dksX7_over_1 16 rfl rfl)
theorem dX7_over_41 : decode cX7_over 41 = .ok (.aload_n 0, 1) := dk_42 (dk_at dksX7_over_1 19 rfl rfl)
theorem dX7_over_42 : decode cX7_over 42 = .ok (.getfield 32, 3) := dk_180 0 32 (dk_at dksX7_over_1 20 rfl rfl)
theorem dX7_over_45 : decode cX7_over 45 = .ok (.iload_n 3, 1) := dk_29 (dk_at dksX7_over_1 23 rfl rfl)
theorem dX7_over_46 : decode cX7_over 46 = .ok (.iaload, 1) := dk_46 (dk_at dksX7_over_2 0 rfl rfl)
theorem dX7_over_47 : decode cX7_over 47 = .ok (.invokevirtual 228, 3) := dk_182 0 228 (dk_at dksX7_over_2 1 rfl rfl)
theorem dX7_over_50 : decode cX7_over 50 = .ok (.ifCond .lt 19, 3) := dk_155 0 19 (dk_at dksX7_over_2 4 rfl rfl)
theorem dX7_over_53 : decode cX7_over 53 = .ok (.aload_n 0, 1) := dk_42 (dk_at dksX7_over_2 7 rfl rfl)
theorem dX7_over_54 : decode cX7_over 54 = .ok (.getfield 52, 3) := dk_180 0 52 (dk_at dksX7_over_2 8 rfl rfl)
theorem dX7_over_57 : decode cX7_over 57 = .ok (.aload_n 0, 1) := dk_42 (dk_at dksX7_over_2 11 rfl rfl)
theorem dX7_over_58 : decode cX7_over 58 = .ok (.getfield 35, 3) := dk_180 0 35 (dk_at dksX7_over_2 12 rfl rfl)
theorem dX7_over_61 : decode cX7_over 61 = .ok (.iload_n 3, 1) := dk_29 (dk_at dksX7_over_2 15 rfl rfl)
theorem dX7_over_62 : decode cX7_over 62 = .ok (.iaload, 1) := dk_46 (dk_at dksX7_over_2 16 rfl rfl)
theorem dX7_over_63 : decode cX7_over 63 = .ok (.invokevirtual 228, 3) := dk_182 0 228 (dk_at dksX7_over_2 17 rfl rfl)
theorem dX7_over_66 : decode cX7_over 66 = .ok (.ifCond .le 13, 3) := dk_158 0 13 (dk_at dksX7_over_2 20 rfl rfl)
theorem dX7_over_69 : decode cX7_over 69 = .ok (.iload_n 2, 1) := dk_28 (dk_at dksX7_over_2 23 rfl rfl)
theorem dX7_over_70 : decode cX7_over 70 = .ok (.iload_n 1, 1) := dk_27 (dk_at dksX7_over_3 0 rfl rfl)
theorem dX7_over_71 : decode cX7_over 71 = .ok (.if_icmp .ne 5, 3) := dk_160 0 5 (dk_at dksX7_over_3 1 rfl rfl)
theorem dX7_over_74 : decode cX7_over 74 = .ok (.iload_n 3, 1) := dk_29 (dk_at dksX7_over_3 4 rfl rfl)
theorem dX7_over_75 : decode cX7_over 75 = .ok (.ireturn, 1) := dk_172 (dk_at dksX7_over_3 5 rfl rfl)
theorem dX7_over_76 : decode cX7_over 76 = .ok (.iinc 2 1, 3) := dk_132 2 1 (dk_at dksX7_over_3 6 rfl rfl)
theorem dX7_over_79 : decode cX7_over 79 = .ok (.iinc 3 1, 3) := dk_132 3 1 (dk_at dksX7_over_3 9 rfl rfl)
theorem dX7_over_82 : decode cX7_over 82 = .ok (.goto (-78), 3) := dk_167 255 178 (dk_at dksX7_over_3 12 rfl rfl)
theorem dX7_over_85 : decode cX7_over 85 = .ok (.iconst (-1), 1) := dk_2 (dk_at dksX7_over_3 15 rfl rfl)
theorem dX7_over_86 : decode cX7_over 86 = .ok (.ireturn, 1) := dk_172 (dk_at dksX7_over_3 16 rfl rfl)
abbrev cX7_slope : ByteArray := prog_42_method_29_code
def yX7_slope : MethodName := ⟨RX7, "slope", "(IIIII)J"⟩
def dkwX7_slope_19 : List UInt8 := [180, 0, 63, 182, 0, 187, 42, 180, 0, 52, 21, 5, 182, 0, 209, 173]
abbrev dktX7_slope_19 : List UInt8 := dkwX7_slope_19 ++ []
def dkwX7_slope_18 : List UInt8 := [42, 180, 0, 78, 180, 0, 218, 42, 180, 0, 63, 184, 0, 151, 42, 180, 0, 52, 42, 180, 0, 59, 42]
abbrev dktX7_slope_18 : List UInt8 := dkwX7_slope_18 ++ dktX7_slope_19
def dkwX7_slope_17 : List UInt8 := [180, 0, 215, 42, 180, 0, 78, 180, 0, 215, 42, 180, 0, 59, 184, 0, 151, 42, 180, 0, 75, 180, 0, 218]
abbrev dktX7_slope_17 : List UInt8 := dkwX7_slope_17 ++ dktX7_slope_18
def dkwX7_slope_16 : List UInt8 := [42, 180, 0, 66, 42, 180, 0, 63, 182, 0, 187, 42, 42, 180, 0, 78, 182, 0, 236, 42, 180, 0, 75]
abbrev dktX7_slope_16 : List UInt8 := dkwX7_slope_16 ++ dktX7_slope_17
def dkwX7_slope_15 : List UInt8 := [180, 0, 41, 182, 0, 183, 182, 0, 155, 42, 42, 180, 0, 63, 17, 108, 72, 182, 0, 194, 42, 180, 0, 78]
abbrev dktX7_slope_15 : List UInt8 := dkwX7_slope_15 ++ dktX7_slope_16
def dkwX7_slope_14 : List UInt8 := [42, 180, 0, 66, 42, 180, 0, 63, 184, 0, 203, 132, 8, 1, 167, 255, 171, 42, 180, 0, 63, 42]
abbrev dktX7_slope_14 : List UInt8 := dkwX7_slope_14 ++ dktX7_slope_15
def dkwX7_slope_13 : List UInt8 := [180, 0, 197, 154, 0, 17, 42, 180, 0, 63, 182, 0, 200, 154, 0, 7, 4, 167, 0, 4, 3, 181, 0, 197]
abbrev dktX7_slope_13 : List UInt8 := dkwX7_slope_13 ++ dktX7_slope_14
def dkwX7_slope_12 : List UInt8 := [180, 0, 63, 42, 27, 21, 8, 28, 182, 0, 129, 182, 0, 194, 42, 180, 0, 63, 42, 180, 0, 63]
abbrev dktX7_slope_12 : List UInt8 := dkwX7_slope_12 ++ dktX7_slope_13
def dkwX7_slope_11 : List UInt8 := [180, 0, 88, 162, 0, 82, 42, 180, 0, 63, 42, 27, 21, 8, 182, 0, 180, 182, 0, 155, 42, 42]
abbrev dktX7_slope_11 : List UInt8 := dkwX7_slope_11 ++ dktX7_slope_12
def dkwX7_slope_10 : List UInt8 := [180, 0, 41, 182, 0, 170, 54, 7, 42, 180, 0, 66, 3, 182, 0, 148, 3, 54, 8, 21, 8, 42]
abbrev dktX7_slope_10 : List UInt8 := dkwX7_slope_10 ++ dktX7_slope_11
def dkwX7_slope_9 : List UInt8 := [180, 0, 63, 182, 0, 187, 42, 42, 180, 0, 75, 182, 0, 236, 42, 4, 2, 2, 182, 0, 166, 42]
abbrev dktX7_slope_9 : List UInt8 := dkwX7_slope_9 ++ dktX7_slope_10
def dkwX7_slope_8 : List UInt8 := [42, 180, 0, 78, 180, 0, 218, 42, 180, 0, 63, 184, 0, 151, 42, 180, 0, 75, 42, 180, 0, 59, 42]
abbrev dktX7_slope_8 : List UInt8 := dkwX7_slope_8 ++ dktX7_slope_9
def dkwX7_slope_7 : List UInt8 := [180, 0, 63, 184, 0, 151, 42, 180, 0, 59, 42, 180, 0, 63, 184, 0, 203, 42, 180, 0, 75, 180, 0, 218]
abbrev dktX7_slope_7 : List UInt8 := dkwX7_slope_7 ++ dktX7_slope_8
def dkwX7_slope_6 : List UInt8 := [42, 180, 0, 59, 184, 0, 151, 42, 180, 0, 78, 180, 0, 215, 42, 180, 0, 75, 180, 0, 218, 42]
abbrev dktX7_slope_6 : List UInt8 := dkwX7_slope_6 ++ dktX7_slope_7
def dkwX7_slope_5 : List UInt8 := [28, 21, 4, 42, 180, 0, 78, 182, 0, 232, 42, 180, 0, 75, 180, 0, 215, 42, 180, 0, 78, 180, 0, 218]
abbrev dktX7_slope_5 : List UInt8 := dkwX7_slope_5 ++ dktX7_slope_6
def dkwX7_slope_4 : List UInt8 := [180, 0, 75, 182, 0, 232, 42, 42, 180, 0, 13, 6, 27, 104, 42, 180, 0, 7, 27, 46, 96, 4, 100, 46]
abbrev dktX7_slope_4 : List UInt8 := dkwX7_slope_4 ++ dktX7_slope_5
def dkwX7_slope_3 : List UInt8 := [2, 159, 0, 7, 20, 0, 213, 173, 42, 42, 180, 0, 13, 6, 27, 104, 29, 96, 46, 28, 21, 4, 42]
abbrev dktX7_slope_3 : List UInt8 := dkwX7_slope_3 ++ dktX7_slope_4
def dkwX7_slope_2 : List UInt8 := [21, 5, 184, 0, 206, 153, 0, 7, 4, 167, 0, 4, 3, 54, 6, 21, 6, 153, 0, 11, 42, 182, 0, 159]
abbrev dktX7_slope_2 : List UInt8 := dkwX7_slope_2 ++ dktX7_slope_3
def dkwX7_slope_1 : List UInt8 := [180, 0, 7, 27, 46, 4, 100, 162, 0, 29, 21, 4, 155, 0, 24, 21, 4, 42, 180, 0, 101, 162, 0, 15]
abbrev dktX7_slope_1 : List UInt8 := dkwX7_slope_1 ++ dktX7_slope_2
def dkwX7_slope_0 : List UInt8 := [42, 27, 182, 0, 104, 153, 0, 53, 42, 28, 182, 0, 108, 153, 0, 45, 29, 155, 0, 41, 29, 42]
abbrev dktX7_slope_0 : List UInt8 := dkwX7_slope_0 ++ dktX7_slope_1
theorem dksX7_slope_0 : cX7_slope.data.toList.drop 0 = dktX7_slope_0 := by decide +kernel
theorem dksX7_slope_1 : cX7_slope.data.toList.drop 22 = dktX7_slope_1 := dk_seg dksX7_slope_0 22 rfl rfl
theorem dksX7_slope_2 : cX7_slope.data.toList.drop 46 = dktX7_slope_2 := dk_seg dksX7_slope_1 24 rfl rfl
theorem dksX7_slope_3 : cX7_slope.data.toList.drop 70 = dktX7_slope_3 := dk_seg dksX7_slope_2 24 rfl rfl
theorem dksX7_slope_4 : cX7_slope.data.toList.drop 93 = dktX7_slope_4 := dk_seg dksX7_slope_3 23 rfl rfl
theorem dksX7_slope_5 : cX7_slope.data.toList.drop 117 = dktX7_slope_5 := dk_seg dksX7_slope_4 24 rfl rfl
theorem dksX7_slope_6 : cX7_slope.data.toList.drop 141 = dktX7_slope_6 := dk_seg dksX7_slope_5 24 rfl rfl
theorem dksX7_slope_7 : cX7_slope.data.toList.drop 163 = dktX7_slope_7 := dk_seg dksX7_slope_6 22 rfl rfl
theorem dksX7_slope_8 : cX7_slope.data.toList.drop 187 = dktX7_slope_8 := dk_seg dksX7_slope_7 24 rfl rfl
theorem dksX7_slope_9 : cX7_slope.data.toList.drop 210 = dktX7_slope_9 := dk_seg dksX7_slope_8 23 rfl rfl
theorem dksX7_slope_10 : cX7_slope.data.toList.drop 232 = dktX7_slope_10 := dk_seg dksX7_slope_9 22 rfl rfl
theorem dksX7_slope_11 : cX7_slope.data.toList.drop 254 = dktX7_slope_11 := dk_seg dksX7_slope_10 22 rfl rfl
theorem dksX7_slope_12 : cX7_slope.data.toList.drop 276 = dktX7_slope_12 := dk_seg dksX7_slope_11 22 rfl rfl
theorem dksX7_slope_13 : cX7_slope.data.toList.drop 298 = dktX7_slope_13 := dk_seg dksX7_slope_12 22 rfl rfl
theorem dksX7_slope_14 : cX7_slope.data.toList.drop 322 = dktX7_slope_14 := dk_seg dksX7_slope_13 24 rfl rfl
theorem dksX7_slope_15 : cX7_slope.data.toList.drop 344 = dktX7_slope_15 := dk_seg dksX7_slope_14 22 rfl rfl
theorem dksX7_slope_16 : cX7_slope.data.toList.drop 368 = dktX7_slope_16 := dk_seg dksX7_slope_15 24 rfl rfl
theorem dksX7_slope_17 : cX7_slope.data.toList.drop 391 = dktX7_slope_17 := dk_seg dksX7_slope_16 23 rfl rfl
theorem dksX7_slope_18 : cX7_slope.data.toList.drop 415 = dktX7_slope_18 := dk_seg dksX7_slope_17 24 rfl rfl
theorem dksX7_slope_19 : cX7_slope.data.toList.drop 438 = dktX7_slope_19 := dk_seg dksX7_slope_18 23 rfl rfl
theorem dX7_slope_0 : decode cX7_slope 0 = .ok (.aload_n 0, 1) := dk_42 (dk_at dksX7_slope_0 0 rfl rfl)
theorem dX7_slope_1 : decode cX7_slope 1 = .ok (.iload_n 1, 1) := dk_27 (dk_at dksX7_slope_0 1 rfl rfl)
theorem dX7_slope_2 : decode cX7_slope 2 = .ok (.invokevirtual 104, 3) := dk_182 0 104 (dk_at dksX7_slope_0 2 rfl rfl)
theorem dX7_slope_5 : decode cX7_slope 5 = .ok (.ifCond .eq 53, 3) := dk_153 0 53 (dk_at dksX7_slope_0 5 rfl rfl)
theorem dX7_slope_8 : decode cX7_slope 8 = .ok (.aload_n 0, 1) := dk_42 (dk_at dksX7_slope_0 8 rfl rfl)
theorem dX7_slope_9 : decode cX7_slope 9 = .ok (.iload_n 2, 1) := dk_28 (dk_at dksX7_slope_0 9 rfl rfl)
theorem dX7_slope_10 : decode cX7_slope 10 = .ok (.invokevirtual 108, 3) := dk_182 0 108 (dk_at dksX7_slope_0 10 rfl rfl)
theorem dX7_slope_13 : decode cX7_slope 13 = .ok (.ifCond .eq 45, 3) := dk_153 0 45 (dk_at dksX7_slope_0 13 rfl rfl)
theorem dX7_slope_16 : decode cX7_slope 16 = .ok (.iload_n 3, 1) := dk_29 (dk_at dksX7_slope_0 16 rfl rfl)
theorem dX7_slope_17 : decode cX7_slope 17 = .ok (.ifCond .lt 41, 3) := dk_155 0 41 (dk_at dksX7_slope_0 17 rfl rfl)
theorem dX7_slope_20 : decode cX7_slope 20 = .ok (.iload_n 3, 1) := dk_29 (dk_at dksX7_slope_0 20 rfl rfl)
theorem dX7_slope_21 : decode cX7_slope 21 = .ok (.aload_n 0, 1) := dk_42 (dk_at dksX7_slope_0 21 rfl rfl)
theorem dX7_slope_22 : decode cX7_slope 22 = .ok (.getfield 7, 3) := dk_180 0 7 (dk_at dksX7_slope_1 0 rfl rfl)
theorem dX7_slope_25 : decode cX7_slope 25 = .ok (.iload_n 1, 1) := dk_27 (dk_at dksX7_slope_1 3 rfl rfl)
theorem dX7_slope_26 : decode cX7_slope 26 = .ok (.iaload, 1) := dk_46 (dk_at dksX7_slope_1 4 rfl rfl)
theorem dX7_slope_27 : decode cX7_slope 27 = .ok (.iconst 1, 1) := dk_4 (dk_at dksX7_slope_1 5 rfl rfl)
theorem dX7_slope_28 : decode cX7_slope 28 = .ok (.isub, 1) := dk_100 (dk_at dksX7_slope_1 6 rfl rfl)
theorem dX7_slope_29 : decode cX7_slope 29 = .ok (.if_icmp .ge 29, 3) := dk_162 0 29 (dk_at dksX7_slope_1 7 rfl rfl)
theorem dX7_slope_32 : decode cX7_slope 32 = .ok (.iload 4, 2) := dk_21 4 (dk_at dksX7_slope_1 10 rfl rfl)
theorem dX7_slope_34 : decode cX7_slope 34 = .ok (.ifCond .lt 24, 3) := dk_155 0 24 (dk_at dksX7_slope_1 12 rfl rfl)
theorem dX7_slope_37 : decode cX7_slope 37 = .ok (.iload 4, 2) := dk_21 4 (dk_at dksX7_slope_1 15 rfl rfl)
theorem dX7_slope_39 : decode cX7_slope 39 = .ok (.aload_n 0, 1) := dk_42 (dk_at dksX7_slope_1 17 rfl rfl)
theorem dX7_slope_40 : decode cX7_slope 40 = .ok (.getfield 101, 3) := dk_180 0 101 (dk_at dksX7_slope_1 18 rfl rfl)
theorem dX7_slope_43 : decode cX7_slope 43 = .ok (.if_icmp .ge 15, 3) := dk_162 0 15 (dk_at dksX7_slope_1 21 rfl rfl)
theorem dX7_slope_46 : decode cX7_slope 46 = .ok (.iload 5, 2) := dk_21 5 (dk_at dksX7_slope_2 0 rfl rfl)
theorem dX7_slope_48 : decode cX7_slope 48 = .ok (.invokestatic 206, 3) := dk_184 0 206 (dk_at dksX7_slope_2 2 rfl rfl)
theorem dX7_slope_51 : decode cX7_slope 51 = .ok (.ifCond .eq 7, 3) := dk_153 0 7 (dk_at dksX7_slope_2 5 rfl rfl)
theorem dX7_slope_54 : decode cX7_slope 54 = .ok (.iconst 1, 1) := dk_4 (dk_at dksX7_slope_2 8 rfl rfl)
theorem dX7_slope_55 : decode cX7_slope 55 = .ok (.goto 4, 3) := dk_167 0 4 (dk_at dksX7_slope_2 9 rfl rfl)
theorem dX7_slope_58 : decode cX7_slope 58 = .ok (.iconst 0, 1) := dk_3 (dk_at dksX7_slope_2 12 rfl rfl)
theorem dX7_slope_59 : decode cX7_slope 59 = .ok (.istore 6, 2) := dk_54 6 (dk_at dksX7_slope_2 13 rfl rfl)
theorem dX7_slope_61 : decode cX7_slope 61 = .ok (.iload 6, 2) := dk_21 6 (dk_at dksX7_slope_2 15 rfl rfl)
theorem dX7_slope_63 : decode cX7_slope 63 = .ok (.ifCond .eq 11, 3) := dk_153 0 11 (dk_at dksX7_slope_2 17 rfl rfl)
theorem dX7_slope_66 : decode cX7_slope 66 = .ok (.aload_n 0, 1) := dk_42 (dk_at dksX7_slope_2 20 rfl rfl)
theorem dX7_slope_67 : decode cX7_slope 67 = .ok (.invokevirtual 159, 3) := dk_182 0 159 (dk_at dksX7_slope_2 21 rfl rfl)
theorem dX7_slope_70 : decode cX7_slope 70 = .ok (.iconst (-1), 1) := dk_2 (dk_at dksX7_slope_3 0 rfl rfl)
theorem dX7_slope_71 : decode cX7_slope 71 = .ok (.if_icmp .eq 7, 3) := dk_159 0 7 (dk_at dksX7_slope_3 1 rfl rfl)
theorem dX7_slope_74 : decode cX7_slope 74 = .ok (.ldc2_w 213, 3) := dk_20 0 213 (dk_at dksX7_slope_3 4 rfl rfl)
theorem dX7_slope_77 : decode cX7_slope 77 = .ok (.lreturn, 1) := dk_173 (dk_at dksX7_slope_3 7 rfl rfl)
theorem dX7_slope_78 : decode cX7_slope 78 = .ok (.aload_n 0, 1) := dk_42 (dk_at dksX7_slope_3 8 rfl rfl)
theorem dX7_slope_79 : decode cX7_slope 79 = .ok (.aload_n 0, 1) := dk_42 (dk_at dksX7_slope_3 9 rfl rfl)
theorem dX7_slope_80 : decode cX7_slope 80 = .ok (.getfield 13, 3) := dk_180 0 13 (dk_at dksX7_slope_3 10 rfl rfl)
theorem dX7_slope_83 : decode cX7_slope 83 = .ok (.iconst 3, 1) := dk_6 (dk_at dksX7_slope_3 13 rfl rfl)
theorem dX7_slope_84 : decode cX7_slope 84 = .ok (.iload_n 1, 1) := dk_27 (dk_at dksX7_slope_3 14 rfl rfl)
theorem dX7_slope_85 : decode cX7_slope 85 = .ok (.imul, 1) := dk_104 (dk_at dksX7_slope_3 15 rfl rfl)
theorem dX7_slope_86 : decode cX7_slope 86 = .ok (.iload_n 3, 1) := dk_29 (dk_at dksX7_slope_3 16 rfl rfl)
theorem dX7_slope_87 : decode cX7_slope 87 = .ok (.iadd, 1) := dk_96 (dk_at dksX7_slope_3 17 rfl rfl)
theorem dX7_slope_88 : decode cX7_slope 88 = .ok (.iaload, 1) := dk_46 (dk_at dksX7_slope_3 18 rfl rfl)
theorem dX7_slope_89 : decode cX7_slope 89 = .ok (.iload_n 2, 1) := dk_28 (dk_at dksX7_slope_3 19 rfl rfl)
theorem dX7_slope_90 : decode cX7_slope 90 = .ok (.iload 4, 2) := dk_21 4 (dk_at dksX7_slope_3 20 rfl rfl)
theorem dX7_slope_92 : decode cX7_slope 92 = .ok (.aload_n 0, 1) := dk_42 (dk_at dksX7_slope_3 22 rfl rfl)
theorem dX7_slope_93 : decode cX7_slope 93 = .ok (.getfield 75, 3) := dk_180 0 75 (dk_at dksX7_slope_4 0 rfl rfl)
theorem dX7_slope_96 : decode cX7_slope 96 = .ok (.invokevirtual 232, 3) := dk_182 0 232 (dk_at dksX7_slope_4 3 rfl rfl)
theorem dX7_slope_99 : decode cX7_slope 99 = .ok (.aload_n 0, 1) := dk_42 (dk_at dksX7_slope_4 6 rfl rfl)
theorem dX7_slope_100 : decode cX7_slope 100 = .ok (.aload_n 0, 1) := dk_42 (dk_at dksX7_slope_4 7 rfl rfl)
theorem dX7_slope_101 : decode cX7_slope 101 = .ok (.getfield 13, 3) := dk_180 0 13 (dk_at dksX7_slope_4 8 rfl rfl)
theorem dX7_slope_104 : decode cX7_slope 104 = .ok (.iconst 3, 1) := dk_6 (dk_at dksX7_slope_4 11 rfl rfl)
theorem dX7_slope_105 : decode cX7_slope 105 = .ok (.iload_n 1, 1) := dk_27 (dk_at dksX7_slope_4 12 rfl rfl)
theorem dX7_slope_106 : decode cX7_slope 106 = .ok (.imul, 1) := dk_104 (dk_at dksX7_slope_4 13 rfl rfl)
theorem dX7_slope_107 : decode cX7_slope 107 = .ok (.aload_n 0, 1) := dk_42 (dk_at dksX7_slope_4 14 rfl rfl)
theorem dX7_slope_108 : decode cX7_slope 108 = .ok (.getfield 7, 3) := dk_180 0 7 (dk_at dksX7_slope_4 15 rfl rfl)
theorem dX7_slope_111 : decode cX7_slope 111 = .ok (.iload_n 1, 1) := dk_27 (dk_at dksX7_slope_4 18 rfl rfl)
theorem dX7_slope_112 : decode cX7_slope 112 = .ok (.iaload, 1) := dk_46 (dk_at dksX7_slope_4 19 rfl rfl)
theorem dX7_slope_113 : decode cX7_slope 113 = .ok (.iadd, 1) := dk_96 (dk_at dksX7_slope_4 20 rfl rfl)
theorem dX7_slope_114 : decode cX7_slope 114 = .ok (.iconst 1, 1) := dk_4 (dk_at dksX7_slope_4 21 rfl rfl)
theorem dX7_slope_115 : decode cX7_slope 115 = .ok (.isub, 1) := dk_100 (dk_at dksX7_slope_4 22 rfl rfl)
theorem dX7_slope_116 : decode cX7_slope 116 = .ok (.iaload, 1) := dk_46 (dk_at dksX7_slope_4 23 rfl rfl)
theorem dX7_slope_117 : decode cX7_slope 117 = .ok (.iload_n 2, 1) := dk_28 (dk_at dksX7_slope_5 0 rfl rfl)
theorem dX7_slope_118 : decode cX7_slope 118 = .ok (.iload 4, 2) := dk_21 4 (dk_at dksX7_slope_5 1 rfl rfl)
theorem dX7_slope_120 : decode cX7_slope 120 = .ok (.aload_n 0, 1) := dk_42 (dk_at dksX7_slope_5 3 rfl rfl)
theorem dX7_slope_121 : decode cX7_slope 121 = .ok (.getfield 78, 3) := dk_180 0 78 (dk_at dksX7_slope_5 4 rfl rfl)
theorem dX7_slope_124 : decode cX7_slope 124 = .ok (.invokevirtual 232, 3) := dk_182 0 232 (dk_at dksX7_slope_5 7 rfl rfl)
theorem dX7_slope_127 : decode cX7_slope 127 = .ok (.aload_n 0, 1) := dk_42 (dk_at dksX7_slope_5 10 rfl rfl)
theorem dX7_slope_128 : decode cX7_slope 128 = .ok (.getfield 75, 3) := dk_180 0 75 (dk_at dksX7_slope_5 11 rfl rfl)
theorem dX7_slope_131 : decode cX7_slope 131 = .ok (.getfield 215, 3) := dk_180 0 215 (dk_at dksX7_slope_5 14 rfl rfl)
theorem dX7_slope_134 : decode cX7_slope 134 = .ok (.aload_n 0, 1) := dk_42 (dk_at dksX7_slope_5 17 rfl rfl)
theorem dX7_slope_135 : decode cX7_slope 135 = .ok (.getfield 78, 3) := dk_180 0 78 (dk_at dksX7_slope_5 18 rfl rfl)
theorem dX7_slope_138 : decode cX7_slope 138 = .ok (.getfield 218, 3) := dk_180 0 218 (dk_at dksX7_slope_5 21 rfl rfl)
theorem dX7_slope_141 : decode cX7_slope 141 = .ok (.aload_n 0, 1) := dk_42 (dk_at dksX7_slope_6 0 rfl rfl)
theorem dX7_slope_142 : decode cX7_slope 142 = .ok (.getfield 59, 3) := dk_180 0 59 (dk_at dksX7_slope_6 1 rfl rfl)
theorem dX7_slope_145 : decode cX7_slope 145 = .ok (.invokestatic 151, 3) := dk_184 0 151 (dk_at dksX7_slope_6 4 rfl rfl)
theorem dX7_slope_148 : decode cX7_slope 148 = .ok (.aload_n 0, 1) := dk_42 (dk_at dksX7_slope_6 7 rfl rfl)
theorem dX7_slope_149 : decode cX7_slope 149 = .ok (.getfield 78, 3) := dk_180 0 78 (dk_at dksX7_slope_6 8 rfl rfl)
theorem dX7_slope_152 : decode cX7_slope 152 = .ok (.getfield 215, 3) := dk_180 0 215 (dk_at dksX7_slope_6 11 rfl rfl)
theorem dX7_slope_155 : decode cX7_slope 155 = .ok (.aload_n 0, 1) := dk_42 (dk_at dksX7_slope_6 14 rfl rfl)
theorem dX7_slope_156 : decode cX7_slope 156 = .ok (.getfield 75, 3) := dk_180 0 75 (dk_at dksX7_slope_6 15 rfl rfl)
theorem dX7_slope_159 : decode cX7_slope 159 = .ok (.getfield 218, 3) := dk_180 0 218 (dk_at dksX7_slope_6 18 rfl rfl)
theorem dX7_slope_162 : decode cX7_slope 162 = .ok (.aload_n 0, 1) := dk_42 (dk_at dksX7_slope_6 21 rfl rfl)
theorem dX7_slope_163 : decode cX7_slope 163 = .ok (.getfield 63, 3) := dk_180 0 63 (dk_at dksX7_slope_7 0 rfl rfl)
theorem dX7_slope_166 : decode cX7_slope 166 = .ok (.invokestatic 151, 3) := dk_184 0 151 (dk_at dksX7_slope_7 3 rfl rfl)
theorem dX7_slope_169 : decode cX7_slope 169 = .ok (.aload_n 0, 1) := dk_42 (dk_at dksX7_slope_7 6 rfl rfl)
theorem dX7_slope_170 : decode cX7_slope 170 = .ok (.getfield 59, 3) := dk_180 0 59 (dk_at dksX7_slope_7 7 rfl rfl)
theorem dX7_slope_173 : decode cX7_slope 173 = .ok (.aload_n 0, 1) := dk_42 (dk_at dksX7_slope_7 10 rfl rfl)
theorem dX7_slope_174 : decode cX7_slope 174 = .ok (.getfield 63, 3) := dk_180 0 63 (dk_at dksX7_slope_7 11 rfl rfl)
theorem dX7_slope_177 : decode cX7_slope 177 = .ok (.invokestatic 203, 3) := dk_184 0 203 (dk_at dksX7_slope_7 14 rfl rfl)
theorem dX7_slope_180 : decode cX7_slope 180 = .ok (.aload_n 0, 1) := dk_42 (dk_at dksX7_slope_7 17 rfl rfl)
theorem dX7_slope_181 : decode cX7_slope 181 = .ok (.getfield 75, 3) := dk_180 0 75 (dk_at dksX7_slope_7 18 rfl rfl)
theorem dX7_slope_184 : decode cX7_slope 184 = .ok (.getfield 218, 3) := dk_180 0 218 (dk_at dksX7_slope_7 21 rfl rfl)
theorem dX7_slope_187 : decode cX7_slope 187 = .ok (.aload_n 0, 1) := dk_42 (dk_at dksX7_slope_8 0 rfl rfl)
theorem dX7_slope_188 : decode cX7_slope 188 = .ok (.getfield 78, 3) := dk_180 0 78 (dk_at dksX7_slope_8 1 rfl rfl)
theorem dX7_slope_191 : decode cX7_slope 191 = .ok (.getfield 218, 3) := dk_180 0 218 (dk_at dksX7_slope_8 4 rfl rfl)
theorem dX7_slope_194 : decode cX7_slope 194 = .ok (.aload_n 0, 1) := dk_42 (dk_at dksX7_slope_8 7 rfl rfl)
theorem dX7_slope_195 : decode cX7_slope 195 = .ok (.getfield 63, 3) := dk_180 0 63 (dk_at dksX7_slope_8 8 rfl rfl)
theorem dX7_slope_198 : decode cX7_slope 198 = .ok (.invokestatic 151, 3) := dk_184 0 151 (dk_at dksX7_slope_8 11 rfl rfl)
theorem dX7_slope_201 : decode cX7_slope 201 = .ok (.aload_n 0, 1) := dk_42 (dk_at dksX7_slope_8 14 rfl rfl)
theorem dX7_slope_202 : decode cX7_slope 202 = .ok (.getfield 75, 3) := dk_180 0 75 (dk_at dksX7_slope_8 15 rfl rfl)
theorem dX7_slope_205 : decode cX7_slope 205 = .ok (.aload_n 0, 1) := dk_42 (dk_at dksX7_slope_8 18 rfl rfl)
theorem dX7_slope_206 : decode cX7_slope 206 = .ok (.getfield 59, 3) := dk_180 0 59 (dk_at dksX7_slope_8 19 rfl rfl)
theorem dX7_slope_209 : decode cX7_slope 209 = .ok (.aload_n 0, 1) := dk_42 (dk_at dksX7_slope_8 22 rfl rfl)
theorem dX7_slope_210 : decode cX7_slope 210 = .ok (.getfield 63, 3) := dk_180 0 63 (dk_at dksX7_slope_9 0 rfl rfl)
theorem dX7_slope_213 : decode cX7_slope 213 = .ok (.invokevirtual 187, 3) := dk_182 0 187 (dk_at dksX7_slope_9 3 rfl rfl)
theorem dX7_slope_216 : decode cX7_slope 216 = .ok (.aload_n 0, 1) := dk_42 (dk_at dksX7_slope_9 6 rfl rfl)
theorem dX7_slope_217 : decode cX7_slope 217 = .ok (.aload_n 0, 1) := dk_42 (dk_at dksX7_slope_9 7 rfl rfl)
theorem dX7_slope_218 : decode cX7_slope 218 = .ok (.getfield 75, 3) := dk_180 0 75 (dk_at dksX7_slope_9 8 rfl rfl)
theorem dX7_slope_221 : decode cX7_slope 221 = .ok (.invokevirtual 236, 3) := dk_182 0 236 (dk_at dksX7_slope_9 11 rfl rfl)
theorem dX7_slope_224 : decode cX7_slope 224 = .ok (.aload_n 0, 1) := dk_42 (dk_at dksX7_slope_9 14 rfl rfl)
theorem dX7_slope_225 : decode cX7_slope 225 = .ok (.iconst 1, 1) := dk_4 (dk_at dksX7_slope_9 15 rfl rfl)
theorem dX7_slope_226 : decode cX7_slope 226 = .ok (.iconst (-1), 1) := dk_2 (dk_at dksX7_slope_9 16 rfl rfl)
theorem dX7_slope_227 : decode cX7_slope 227 = .ok (.iconst (-1), 1) := dk_2 (dk_at dksX7_slope_9 17 rfl rfl)
theorem dX7_slope_228 : decode cX7_slope 228 = .ok (.invokevirtual 166, 3) := dk_182 0 166 (dk_at dksX7_slope_9 18 rfl rfl)
theorem dX7_slope_231 : decode cX7_slope 231 = .ok (.aload_n 0, 1) := dk_42 (dk_at dksX7_slope_9 21 rfl rfl)
theorem dX7_slope_232 : decode cX7_slope 232 = .ok (.getfield 41, 3) := dk_180 0 41 (dk_at dksX7_slope_10 0 rfl rfl)
theorem dX7_slope_235 : decode cX7_slope 235 = .ok (.invokevirtual 170, 3) := dk_182 0 170 (dk_at dksX7_slope_10 3 rfl rfl)
theorem dX7_slope_238 : decode cX7_slope 238 = .ok (.istore 7, 2) := dk_54 7 (dk_at dksX7_slope_10 6 rfl rfl)
theorem dX7_slope_240 : decode cX7_slope 240 = .ok (.aload_n 0, 1) := dk_42 (dk_at dksX7_slope_10 8 rfl rfl)
theorem dX7_slope_241 : decode cX7_slope 241 = .ok (.getfield 66, 3) := dk_180 0 66 (dk_at dksX7_slope_10 9 rfl rfl)
theorem dX7_slope_244 : decode cX7_slope 244 = .ok (.iconst 0, 1) := dk_3 (dk_at dksX7_slope_10 12 rfl rfl)
theorem dX7_slope_245 : decode cX7_slope 245 = .ok (.invokevirtual 148, 3) := dk_182 0 148 (dk_at dksX7_slope_10 13 rfl rfl)
theorem dX7_slope_248 : decode cX7_slope 248 = .ok (.iconst 0, 1) := dk_3 (dk_at dksX7_slope_10 16 rfl rfl)
theorem dX7_slope_249 : decode cX7_slope 249 = .ok (.istore 8, 2) := dk_54 8 (dk_at dksX7_slope_10 17 rfl rfl)
theorem dX7_slope_251 : decode cX7_slope 251 = .ok (.iload 8, 2) := dk_21 8 (dk_at dksX7_slope_10 19 rfl rfl)
theorem dX7_slope_253 : decode cX7_slope 253 = .ok (.aload_n 0, 1) := dk_42 (dk_at dksX7_slope_10 21 rfl rfl)
theorem dX7_slope_254 : decode cX7_slope 254 = .ok (.getfield 88, 3) := dk_180 0 88 (dk_at dksX7_slope_11 0 rfl rfl)
theorem dX7_slope_257 : decode cX7_slope 257 = .ok (.if_icmp .ge 82, 3) := dk_162 0 82 (dk_at dksX7_slope_11 3 rfl rfl)
theorem dX7_slope_260 : decode cX7_slope 260 = .ok (.aload_n 0, 1) := dk_42 (dk_at dksX7_slope_11 6 rfl rfl)
theorem dX7_slope_261 : decode cX7_slope 261 = .ok (.getfield 63, 3) := dk_180 0 63 (dk_at dksX7_slope_11 7 rfl rfl)
theorem dX7_slope_264 : decode cX7_slope 264 = .ok (.aload_n 0, 1) := dk_42 (dk_at dksX7_slope_11 10 rfl rfl)
theorem dX7_slope_265 : decode cX7_slope 265 = .ok (.iload_n 1, 1) := dk_27 (dk_at dksX7_slope_11 11 rfl rfl)
theorem dX7_slope_266 : decode cX7_slope 266 = .ok (.iload 8, 2) := dk_21 8 (dk_at dksX7_slope_11 12 rfl rfl)
theorem dX7_slope_268 : decode cX7_slope 268 = .ok (.invokevirtual 180, 3) := dk_182 0 180 (dk_at dksX7_slope_11 14 rfl rfl)
theorem dX7_slope_271 : decode cX7_slope 271 = .ok (.invokevirtual 155, 3) := dk_182 0 155 (dk_at dksX7_slope_11 17 rfl rfl)
theorem dX7_slope_274 : decode cX7_slope 274 = .ok (.aload_n 0, 1) := dk_42 (dk_at dksX7_slope_11 20 rfl rfl)
theorem dX7_slope_275 : decode cX7_slope 275 = .ok (.aload_n 0, 1) := dk_42 (dk_at dksX7_slope_11 21 rfl rfl)
theorem dX7_slope_276 : decode cX7_slope 276 = .ok (.getfield 63, 3) := dk_180 0 63 (dk_at dksX7_slope_12 0 rfl rfl)
theorem dX7_slope_279 : decode cX7_slope 279 = .ok (.aload_n 0, 1) := dk_42 (dk_at dksX7_slope_12 3 rfl rfl)
theorem dX7_slope_280 : decode cX7_slope 280 = .ok (.iload_n 1, 1) := dk_27 (dk_at dksX7_slope_12 4 rfl rfl)
theorem dX7_slope_281 : decode cX7_slope 281 = .ok (.iload 8, 2) := dk_21 8 (dk_at dksX7_slope_12 5 rfl rfl)
theorem dX7_slope_283 : decode cX7_slope 283 = .ok (.iload_n 2, 1) := dk_28 (dk_at dksX7_slope_12 7 rfl rfl)
theorem dX7_slope_284 : decode cX7_slope 284 = .ok (.invokevirtual 129, 3) := dk_182 0 129 (dk_at dksX7_slope_12 8 rfl rfl)
theorem dX7_slope_287 : decode cX7_slope 287 = .ok (.invokevirtual 194, 3) := dk_182 0 194 (dk_at dksX7_slope_12 11 rfl rfl)
theorem dX7_slope_290 : decode cX7_slope 290 = .ok (.aload_n 0, 1) := dk_42 (dk_at dksX7_slope_12 14 rfl rfl)
theorem dX7_slope_291 : decode cX7_slope 291 = .ok (.getfield 63, 3) := dk_180 0 63 (dk_at dksX7_slope_12 15 rfl rfl)
theorem dX7_slope_294 : decode cX7_slope 294 = .ok (.aload_n 0, 1) := dk_42 (dk_at dksX7_slope_12 18 rfl rfl)
theorem dX7_slope_295 : decode cX7_slope 295 = .ok (.getfield 63, 3) := dk_180 0 63 (dk_at dksX7_slope_12 19 rfl rfl)
theorem dX7_slope_298 : decode cX7_slope 298 = .ok (.getfield 197, 3) := dk_180 0 197 (dk_at dksX7_slope_13 0 rfl rfl)
theorem dX7_slope_301 : decode cX7_slope 301 = .ok (.ifCond .ne 17, 3) := dk_154 0 17 (dk_at dksX7_slope_13 3 rfl rfl)
theorem dX7_slope_304 : decode cX7_slope 304 = .ok (.aload_n 0, 1) := dk_42 (dk_at dksX7_slope_13 6 rfl rfl)
theorem dX7_slope_305 : decode cX7_slope 305 = .ok (.getfield 63, 3) := dk_180 0 63 (dk_at dksX7_slope_13 7 rfl rfl)
theorem dX7_slope_308 : decode cX7_slope 308 = .ok (.invokevirtual 200, 3) := dk_182 0 200 (dk_at dksX7_slope_13 10 rfl rfl)
theorem dX7_slope_311 : decode cX7_slope 311 = .ok (.ifCond .ne 7, 3) := dk_154 0 7 (dk_at dksX7_slope_13 13 rfl rfl)
theorem dX7_slope_314 : decode cX7_slope 314 = .ok (.iconst 1, 1) := dk_4 (dk_at dksX7_slope_13 16 rfl rfl)
theorem dX7_slope_315 : decode cX7_slope 315 = .ok (.goto 4, 3) := dk_167 0 4 (dk_at dksX7_slope_13 17 rfl rfl)
theorem dX7_slope_318 : decode cX7_slope 318 = .ok (.iconst 0, 1) := dk_3 (dk_at dksX7_slope_13 20 rfl rfl)
theorem dX7_slope_319 : decode cX7_slope 319 = .ok (.putfield 197, 3) := dk_181 0 197 (dk_at dksX7_slope_13 21 rfl rfl)
theorem dX7_slope_322 : decode cX7_slope 322 = .ok (.aload_n 0, 1) := dk_42 (dk_at dksX7_slope_14 0 rfl rfl)
theorem dX7_slope_323 : decode cX7_slope 323 = .ok (.getfield 66, 3) := dk_180 0 66 (dk_at dksX7_slope_14 1 rfl rfl)
theorem dX7_slope_326 : decode cX7_slope 326 = .ok (.aload_n 0, 1) := dk_42 (dk_at dksX7_slope_14 4 rfl rfl)
theorem dX7_slope_327 : decode cX7_slope 327 = .ok (.getfield 63, 3) := dk_180 0 63 (dk_at dksX7_slope_14 5 rfl rfl)
theorem dX7_slope_330 : decode cX7_slope 330 = .ok (.invokestatic 203, 3) := dk_184 0 203 (dk_at dksX7_slope_14 8 rfl rfl)
theorem dX7_slope_333 : decode cX7_slope 333 = .ok (.iinc 8 1, 3) := dk_132 8 1 (dk_at dksX7_slope_14 11 rfl rfl)
theorem dX7_slope_336 : decode cX7_slope 336 = .ok (.goto (-85), 3) := dk_167 255 171 (dk_at dksX7_slope_14 14 rfl rfl)
theorem dX7_slope_339 : decode cX7_slope 339 = .ok (.aload_n 0, 1) := dk_42 (dk_at dksX7_slope_14 17 rfl rfl)
theorem dX7_slope_340 : decode cX7_slope 340 = .ok (.getfield 63, 3) := dk_180 0 63 (dk_at dksX7_slope_14 18 rfl rfl)
theorem dX7_slope_343 : decode cX7_slope 343 = .ok (.aload_n 0, 1) := dk_42 (dk_at dksX7_slope_14 21 rfl rfl)
theorem dX7_slope_344 : decode cX7_slope 344 = .ok (.getfield 41, 3) := dk_180 0 41 (dk_at dksX7_slope_15 0 rfl rfl)
theorem dX7_slope_347 : decode cX7_slope 347 = .ok (.invokevirtual 183, 3) := dk_182 0 183 (dk_at dksX7_slope_15 3 rfl rfl)
theorem dX7_slope_350 : decode cX7_slope 350 = .ok (.invokevirtual 155, 3) := dk_182 0 155 (dk_at dksX7_slope_15 6 rfl rfl)
theorem dX7_slope_353 : decode cX7_slope 353 = .ok (.aload_n 0, 1) := dk_42 (dk_at dksX7_slope_15 9 rfl rfl)
theorem dX7_slope_354 : decode cX7_slope 354 = .ok (.aload_n 0, 1) := dk_42 (dk_at dksX7_slope_15 10 rfl rfl)
theorem dX7_slope_355 : decode cX7_slope 355 = .ok (.getfield 63, 3) := dk_180 0 63 (dk_at dksX7_slope_15 11 rfl rfl)
theorem dX7_slope_358 : decode cX7_slope 358 = .ok (.sipush 27720, 3) := dk_17 108 72 (dk_at dksX7_slope_15 14 rfl rfl)
theorem dX7_slope_361 : decode cX7_slope 361 = .ok (.invokevirtual 194, 3) := dk_182 0 194 (dk_at dksX7_slope_15 17 rfl rfl)
theorem dX7_slope_364 : decode cX7_slope 364 = .ok (.aload_n 0, 1) := dk_42 (dk_at dksX7_slope_15 20 rfl rfl)
theorem dX7_slope_365 : decode cX7_slope 365 = .ok (.getfield 78, 3) := dk_180 0 78 (dk_at dksX7_slope_15 21 rfl rfl)
theorem dX7_slope_368 : decode cX7_slope 368 = .ok (.aload_n 0, 1) := dk_42 (dk_at dksX7_slope_16 0 rfl rfl)
theorem dX7_slope_369 : decode cX7_slope 369 = .ok (.getfield 66, 3) := dk_180 0 66 (dk_at dksX7_slope_16 1 rfl rfl)
theorem dX7_slope_372 : decode cX7_slope 372 = .ok (.aload_n 0, 1) := dk_42 (dk_at dksX7_slope_16 4 rfl rfl)
theorem dX7_slope_373 : decode cX7_slope 373 = .ok (.getfield 63, 3) := dk_180 0 63 (dk_at dksX7_slope_16 5 rfl rfl)
theorem dX7_slope_376 : decode cX7_slope 376 = .ok (.invokevirtual 187, 3) := dk_182 0 187 (dk_at dksX7_slope_16 8 rfl rfl)
theorem dX7_slope_379 : decode cX7_slope 379 = .ok (.aload_n 0, 1) := dk_42 (dk_at dksX7_slope_16 11 rfl rfl)
theorem dX7_slope_380 : decode cX7_slope 380 = .ok (.aload_n 0, 1) := dk_42 (dk_at dksX7_slope_16 12 rfl rfl)
theorem dX7_slope_381 : decode cX7_slope 381 = .ok (.getfield 78, 3) := dk_180 0 78 (dk_at dksX7_slope_16 13 rfl rfl)
theorem dX7_slope_384 : decode cX7_slope 384 = .ok (.invokevirtual 236, 3) := dk_182 0 236 (dk_at dksX7_slope_16 16 rfl rfl)
theorem dX7_slope_387 : decode cX7_slope 387 = .ok (.aload_n 0, 1) := dk_42 (dk_at dksX7_slope_16 19 rfl rfl)
theorem dX7_slope_388 : decode cX7_slope 388 = .ok (.getfield 75, 3) := dk_180 0 75 (dk_at dksX7_slope_16 20 rfl rfl)
theorem dX7_slope_391 : decode cX7_slope 391 = .ok (.getfield 215, 3) := dk_180 0 215 (dk_at dksX7_slope_17 0 rfl rfl)
theorem dX7_slope_394 : decode cX7_slope 394 = .ok (.aload_n 0, 1) := dk_42 (dk_at dksX7_slope_17 3 rfl rfl)
theorem dX7_slope_395 : decode cX7_slope 395 = .ok (.getfield 78, 3) := dk_180 0 78 (dk_at dksX7_slope_17 4 rfl rfl)
theorem dX7_slope_398 : decode cX7_slope 398 = .ok (.getfield 215, 3) := dk_180 0 215 (dk_at dksX7_slope_17 7 rfl rfl)
theorem dX7_slope_401 : decode cX7_slope 401 = .ok (.aload_n 0, 1) := dk_42 (dk_at dksX7_slope_17 10 rfl rfl)
theorem dX7_slope_402 : decode cX7_slope 402 = .ok (.getfield 59, 3) := dk_180 0 59 (dk_at dksX7_slope_17 11 rfl rfl)
theorem dX7_slope_405 : decode cX7_slope 405 = .ok (.invokestatic 151, 3) := dk_184 0 151 (dk_at dksX7_slope_17 14 rfl rfl)
theorem dX7_slope_408 : decode cX7_slope 408 = .ok (.aload_n 0, 1) := dk_42 (dk_at dksX7_slope_17 17 rfl rfl)
theorem dX7_slope_409 : decode cX7_slope 409 = .ok (.getfield 75, 3) := dk_180 0 75 (dk_at dksX7_slope_17 18 rfl rfl)
theorem dX7_slope_412 : decode cX7_slope 412 = .ok (.getfield 218, 3) := dk_180 0 218 (dk_at dksX7_slope_17 21 rfl rfl)
theorem dX7_slope_415 : decode cX7_slope 415 = .ok (.aload_n 0, 1) := dk_42 (dk_at dksX7_slope_18 0 rfl rfl)
theorem dX7_slope_416 : decode cX7_slope 416 = .ok (.getfield 78, 3) := dk_180 0 78 (dk_at dksX7_slope_18 1 rfl rfl)
theorem dX7_slope_419 : decode cX7_slope 419 = .ok (.getfield 218, 3) := dk_180 0 218 (dk_at dksX7_slope_18 4 rfl rfl)
theorem dX7_slope_422 : decode cX7_slope 422 = .ok (.aload_n 0, 1) := dk_42 (dk_at dksX7_slope_18 7 rfl rfl)
theorem dX7_slope_423 : decode cX7_slope 423 = .ok (.getfield 63, 3) := dk_180 0 63 (dk_at dksX7_slope_18 8 rfl rfl)
theorem dX7_slope_426 : decode cX7_slope 426 = .ok (.invokestatic 151, 3) := dk_184 0 151 (dk_at dksX7_slope_18 11 rfl rfl)
theorem dX7_slope_429 : decode cX7_slope 429 = .ok (.aload_n 0, 1) := dk_42 (dk_at dksX7_slope_18 14 rfl rfl)
theorem dX7_slope_430 : decode cX7_slope 430 = .ok (.getfield 52, 3) := dk_180 0 52 (dk_at dksX7_slope_18 15 rfl rfl)
theorem dX7_slope_433 : decode cX7_slope 433 = .ok (.aload_n 0, 1) := dk_42 (dk_at dksX7_slope_18 18 rfl rfl)
theorem dX7_slope_434 : decode cX7_slope 434 = .ok (.getfield 59, 3) := dk_180 0 59 (dk_at dksX7_slope_18 19 rfl rfl)
theorem dX7_slope_437 : decode cX7_slope 437 = .ok (.aload_n 0, 1) := dk_42 (dk_at dksX7_slope_18 22 rfl rfl)
theorem dX7_slope_438 : decode cX7_slope 438 = .ok (.getfield 63, 3) := dk_180 0 63 (dk_at dksX7_slope_19 0 rfl rfl)
theorem dX7_slope_441 : decode cX7_slope 441 = .ok (.invokevirtual 187, 3) := dk_182 0 187 (dk_at dksX7_slope_19 3 rfl rfl)
theorem dX7_slope_444 : decode cX7_slope 444 = .ok (.aload_n 0, 1) := dk_42 (dk_at dksX7_slope_19 6 rfl rfl)
theorem dX7_slope_445 : decode cX7_slope 445 = .ok (.getfield 52, 3) := dk_180 0 52 (dk_at dksX7_slope_19 7 rfl rfl)
theorem dX7_slope_448 : decode cX7_slope 448 = .ok (.iload 5, 2) := dk_21 5 (dk_at dksX7_slope_19 10 rfl rfl)
theorem dX7_slope_450 : decode cX7_slope 450 = .ok (.invokevirtual 209, 3) := dk_182 0 209 (dk_at dksX7_slope_19 12 rfl rfl)
theorem dX7_slope_453 : decode cX7_slope 453 = .ok (.lreturn, 1) := dk_173 (dk_at dksX7_slope_19 15 rfl rfl)
abbrev cX7_worth : ByteArray := prog_42_method_28_code
def yX7_worth : MethodName := ⟨RX7, "worth", "(IIILWasteHouse$ShareSolve$Amount;)V"⟩
def dkwX7_worth_4 : List UInt8 := [42, 180, 0, 52, 180, 0, 215, 3, 182, 0, 221, 132, 6, 1, 167, 255, 220, 177]
abbrev dktX7_worth_4 : List UInt8 := dkwX7_worth_4 ++ []
def dkwX7_worth_3 : List UInt8 := [54, 6, 21, 6, 42, 180, 0, 88, 162, 0, 33, 42, 29, 21, 6, 42, 180, 0, 52, 182, 0, 190, 25, 4]
abbrev dktX7_worth_3 : List UInt8 := dkwX7_worth_3 ++ dktX7_worth_4
def dkwX7_worth_2 : List UInt8 := [27, 28, 182, 0, 166, 42, 180, 0, 41, 182, 0, 170, 54, 5, 42, 29, 3, 25, 4, 182, 0, 190, 4]
abbrev dktX7_worth_2 : List UInt8 := dkwX7_worth_2 ++ dktX7_worth_3
def dkwX7_worth_1 : List UInt8 := [42, 180, 0, 63, 4, 182, 0, 148, 25, 4, 42, 180, 0, 59, 42, 180, 0, 63, 182, 0, 187, 177, 42, 3]
abbrev dktX7_worth_1 : List UInt8 := dkwX7_worth_1 ++ dktX7_worth_2
def dkwX7_worth_0 : List UInt8 := [27, 156, 0, 45, 42, 180, 0, 59, 27, 16, 254, 29, 100, 160, 0, 7, 4, 167, 0, 4, 3, 182, 0, 148]
abbrev dktX7_worth_0 : List UInt8 := dkwX7_worth_0 ++ dktX7_worth_1
theorem dksX7_worth_0 : cX7_worth.data.toList.drop 0 = dktX7_worth_0 := by decide +kernel
theorem dksX7_worth_1 : cX7_worth.data.toList.drop 24 = dktX7_worth_1 := dk_seg dksX7_worth_0 24 rfl rfl
theorem dksX7_worth_2 : cX7_worth.data.toList.drop 48 = dktX7_worth_2 := dk_seg dksX7_worth_1 24 rfl rfl
theorem dksX7_worth_3 : cX7_worth.data.toList.drop 71 = dktX7_worth_3 := dk_seg dksX7_worth_2 23 rfl rfl
theorem dksX7_worth_4 : cX7_worth.data.toList.drop 95 = dktX7_worth_4 := dk_seg dksX7_worth_3 24 rfl rfl
theorem dX7_worth_0 : decode cX7_worth 0 = .ok (.iload_n 1, 1) := dk_27 (dk_at dksX7_worth_0 0 rfl rfl)
theorem dX7_worth_1 : decode cX7_worth 1 = .ok (.ifCond .ge 45, 3) := dk_156 0 45 (dk_at dksX7_worth_0 1 rfl rfl)
theorem dX7_worth_4 : decode cX7_worth 4 = .ok (.aload_n 0, 1) := dk_42 (dk_at dksX7_worth_0 4 rfl rfl)
theorem dX7_worth_5 : decode cX7_worth 5 = .ok (.getfield 59, 3) := dk_180 0 59 (dk_at dksX7_worth_0 5 rfl rfl)
theorem dX7_worth_8 : decode cX7_worth 8 = .ok (.iload_n 1, 1) := dk_27 (dk_at dksX7_worth_0 8 rfl rfl)
theorem dX7_worth_9 : decode cX7_worth 9 = .ok (.bipush (-2), 2) := dk_16 254 (dk_at dksX7_worth_0 9 rfl rfl)
theorem dX7_worth_11 : decode cX7_worth 11 = .ok (.iload_n 3, 1) := dk_29 (dk_at dksX7_worth_0 11 rfl rfl)
theorem dX7_worth_12 : decode cX7_worth 12 = .ok (.isub, 1) := dk_100 (dk_at dksX7_worth_0 12 rfl rfl)
theorem dX7_worth_13 : decode cX7_worth 13 = .ok (.if_icmp .ne 7, 3) := dk_160 0 7 (dk_at dksX7_worth_0 13 rfl rfl)
theorem dX7_worth_16 : decode cX7_worth 16 = .ok (.iconst 1, 1) := dk_4 (dk_at dksX7_worth_0 16 rfl rfl)
theorem dX7_worth_17 : decode cX7_worth 17 = .ok (.goto 4, 3) := dk_167 0 4 (dk_at dksX7_worth_0 17 rfl rfl)
theorem dX7_worth_20 : decode cX7_worth 20 = .ok (.iconst 0, 1) := dk_3 (dk_at dksX7_worth_0 20 rfl rfl)
theorem dX7_worth_21 : decode cX7_worth 21 = .ok (.invokevirtual 148, 3) := dk_182 0 148 (dk_at dksX7_worth_0 21 rfl rfl)
theorem dX7_worth_24 : decode cX7_worth 24 = .ok (.aload_n 0, 1) := dk_42 (dk_at dksX7_worth_1 0 rfl rfl)
theorem dX7_worth_25 : decode cX7_worth 25 = .ok (.getfield 63, 3) := dk_180 0 63 (dk_at dksX7_worth_1 1 rfl rfl)
theorem dX7_worth_28 : decode cX7_worth 28 = .ok (.iconst 1, 1) := dk_4 (dk_at dksX7_worth_1 4 rfl rfl)
theorem dX7_worth_29 : decode cX7_worth 29 = .ok (.invokevirtual 148, 3) := dk_182 0 148 (dk_at dksX7_worth_1 5 rfl rfl)
theorem dX7_worth_32 : decode cX7_worth 32 = .ok (.aload 4, 2) := dk_25 4 (dk_at dksX7_worth_1 8 rfl rfl)
theorem dX7_worth_34 : decode cX7_worth 34 = .ok (.aload_n 0, 1) := dk_42 (dk_at dksX7_worth_1 10 rfl rfl)
theorem dX7_worth_35 : decode cX7_worth 35 = .ok (.getfield 59, 3) := dk_180 0 59 (dk_at dksX7_worth_1 11 rfl rfl)
theorem dX7_worth_38 : decode cX7_worth 38 = .ok (.aload_n 0, 1) := dk_42 (dk_at dksX7_worth_1 14 rfl rfl)
theorem dX7_worth_39 : decode cX7_worth 39 = .ok (.getfield 63, 3) := dk_180 0 63 (dk_at dksX7_worth_1 15 rfl rfl)
theorem dX7_worth_42 : decode cX7_worth 42 = .ok (.invokevirtual 187, 3) := dk_182 0 187 (dk_at dksX7_worth_1 18 rfl rfl)
theorem dX7_worth_45 : decode cX7_worth 45 = .ok (.return_, 1) := dk_177 (dk_at dksX7_worth_1 21 rfl rfl)
theorem dX7_worth_46 : decode cX7_worth 46 = .ok (.aload_n 0, 1) := dk_42 (dk_at dksX7_worth_1 22 rfl rfl)
theorem dX7_worth_47 : decode cX7_worth 47 = .ok (.iconst 0, 1) := dk_3 (dk_at dksX7_worth_1 23 rfl rfl)
theorem dX7_worth_48 : decode cX7_worth 48 = .ok (.iload_n 1, 1) := dk_27 (dk_at dksX7_worth_2 0 rfl rfl)
theorem dX7_worth_49 : decode cX7_worth 49 = .ok (.iload_n 2, 1) := dk_28 (dk_at dksX7_worth_2 1 rfl rfl)
theorem dX7_worth_50 : decode cX7_worth 50 = .ok (.invokevirtual 166, 3) := dk_182 0 166 (dk_at dksX7_worth_2 2 rfl rfl)
theorem dX7_worth_53 : decode cX7_worth 53 = .ok (.aload_n 0, 1) := dk_42 (dk_at dksX7_worth_2 5 rfl rfl)
theorem dX7_worth_54 : decode cX7_worth 54 = .ok (.getfield 41, 3) := dk_180 0 41 (dk_at dksX7_worth_2 6 rfl rfl)
theorem dX7_worth_57 : decode cX7_worth 57 = .ok (.invokevirtual 170, 3) := dk_182 0 170 (dk_at dksX7_worth_2 9 rfl rfl)
theorem dX7_worth_60 : decode cX7_worth 60 = .ok (.istore 5, 2) := dk_54 5 (dk_at dksX7_worth_2 12 rfl rfl)
theorem dX7_worth_62 : decode cX7_worth 62 = .ok (.aload_n 0, 1) := dk_42 (dk_at dksX7_worth_2 14 rfl rfl)
theorem dX7_worth_63 : decode cX7_worth 63 = .ok (.iload_n 3, 1) := dk_29 (dk_at dksX7_worth_2 15 rfl rfl)
theorem dX7_worth_64 : decode cX7_worth 64 = .ok (.iconst 0, 1) := dk_3 (dk_at dksX7_worth_2 16 rfl rfl)
theorem dX7_worth_65 : decode cX7_worth 65 = .ok (.aload 4, 2) := dk_25 4 (dk_at dksX7_worth_2 17 rfl rfl)
theorem dX7_worth_67 : decode cX7_worth 67 = .ok (.invokevirtual 190, 3) := dk_182 0 190 (dk_at dksX7_worth_2 19 rfl rfl)
theorem dX7_worth_70 : decode cX7_worth 70 = .ok (.iconst 1, 1) := dk_4 (dk_at dksX7_worth_2 22 rfl rfl)
theorem dX7_worth_71 : decode cX7_worth 71 = .ok (.istore 6, 2) := dk_54 6 (dk_at dksX7_worth_3 0 rfl rfl)
theorem dX7_worth_73 : decode cX7_worth 73 = .ok (.iload 6, 2) := dk_21 6 (dk_at dksX7_worth_3 2 rfl rfl)
theorem dX7_worth_75 : decode cX7_worth 75 = .ok (.aload_n 0, 1) := dk_42 (dk_at dksX7_worth_3 4 rfl rfl)
theorem dX7_worth_76 : decode cX7_worth 76 = .ok (.getfield 88, 3) := dk_180 0 88 (dk_at dksX7_worth_3 5 rfl rfl)
theorem dX7_worth_79 : decode cX7_worth 79 = .ok (.if_icmp .ge 33, 3) := dk_162 0 33 (dk_at dksX7_worth_3 8 rfl rfl)
theorem dX7_worth_82 : decode cX7_worth 82 = .ok (.aload_n 0, 1) := dk_42 (dk_at dksX7_worth_3 11 rfl rfl)
theorem dX7_worth_83 : decode cX7_worth 83 = .ok (.iload_n 3, 1) := dk_29 (dk_at dksX7_worth_3 12 rfl rfl)
theorem dX7_worth_84 : decode cX7_worth 84 = .ok (.iload 6, 2) := dk_21 6 (dk_at dksX7_worth_3 13 rfl rfl)
theorem dX7_worth_86 : decode cX7_worth 86 = .ok (.aload_n 0, 1) := dk_42 (dk_at dksX7_worth_3 15 rfl rfl)
theorem dX7_worth_87 : decode cX7_worth 87 = .ok (.getfield 52, 3) := dk_180 0 52 (dk_at dksX7_worth_3 16 rfl rfl)
theorem dX7_worth_90 : decode cX7_worth 90 = .ok (.invokevirtual 190, 3) := dk_182 0 190 (dk_at dksX7_worth_3 19 rfl rfl)
theorem dX7_worth_93 : decode cX7_worth 93 = .ok (.aload 4, 2) := dk_25 4 (dk_at dksX7_worth_3 22 rfl rfl)
theorem dX7_worth_95 : decode cX7_worth 95 = .ok (.aload_n 0, 1) := dk_42 (dk_at dksX7_worth_4 0 rfl rfl)
theorem dX7_worth_96 : decode cX7_worth 96 = .ok (.getfield 52, 3) := dk_180 0 52 (dk_at dksX7_worth_4 1 rfl rfl)
theorem dX7_worth_99 : decode cX7_worth 99 = .ok (.getfield 215, 3) := dk_180 0 215 (dk_at dksX7_worth_4 4 rfl rfl)
theorem dX7_worth_102 : decode cX7_worth 102 = .ok (.iconst 0, 1) := dk_3 (dk_at dksX7_worth_4 7 rfl rfl)
theorem dX7_worth_103 : decode cX7_worth 103 = .ok (.invokevirtual 221, 3) := dk_182 0 221 (dk_at dksX7_worth_4 8 rfl rfl)
theorem dX7_worth_106 : decode cX7_worth 106 = .ok (.iinc 6 1, 3) := dk_132 6 1 (dk_at dksX7_worth_4 11 rfl rfl)
theorem dX7_worth_109 : decode cX7_worth 109 = .ok (.goto (-36), 3) := dk_167 255 220 (dk_at dksX7_worth_4 14 rfl rfl)
theorem dX7_worth_112 : decode cX7_worth 112 = .ok (.return_, 1) := dk_177 (dk_at dksX7_worth_4 17 rfl rfl)
abbrev cX7_lower : ByteArray := prog_42_method_30_code
def yX7_lower : MethodName := ⟨RX7, "lower", "(LWasteHouse$ShareSolve$Amount;)V"⟩
def dkwX7_lower_3 : List UInt8 := [180, 0, 84, 43, 180, 0, 218, 42, 180, 0, 69, 182, 0, 243, 177]
abbrev dktX7_lower_3 : List UInt8 := dkwX7_lower_3 ++ []
def dkwX7_lower_2 : List UInt8 := [180, 0, 218, 182, 0, 240, 42, 180, 0, 84, 43, 180, 0, 215, 42, 180, 0, 69, 182, 0, 243, 42]
abbrev dktX7_lower_2 : List UInt8 := dkwX7_lower_2 ++ dktX7_lower_3
def dkwX7_lower_1 : List UInt8 := [180, 0, 215, 182, 0, 155, 42, 180, 0, 69, 3, 181, 0, 197, 42, 180, 0, 84, 42, 180, 0, 69, 43]
abbrev dktX7_lower_1 : List UInt8 := dkwX7_lower_1 ++ dktX7_lower_2
def dkwX7_lower_0 : List UInt8 := [43, 180, 0, 215, 182, 0, 200, 153, 0, 12, 43, 180, 0, 218, 4, 182, 0, 148, 177, 42, 180, 0, 69, 43]
abbrev dktX7_lower_0 : List UInt8 := dkwX7_lower_0 ++ dktX7_lower_1
theorem dksX7_lower_0 : cX7_lower.data.toList.drop 0 = dktX7_lower_0 := by decide +kernel
theorem dksX7_lower_1 : cX7_lower.data.toList.drop 24 = dktX7_lower_1 := dk_seg dksX7_lower_0 24 rfl rfl
theorem dksX7_lower_2 : cX7_lower.data.toList.drop 47 = dktX7_lower_2 := dk_seg dksX7_lower_1 23 rfl rfl
theorem dksX7_lower_3 : cX7_lower.data.toList.drop 69 = dktX7_lower_3 := dk_seg dksX7_lower_2 22 rfl rfl
theorem dX7_lower_0 : decode cX7_lower 0 = .ok (.aload_n 1, 1) := dk_43 (dk_at dksX7_lower_0 0 rfl rfl)
theorem dX7_lower_1 : decode cX7_lower 1 = .ok (.getfield 215, 3) := dk_180 0 215 (dk_at dksX7_lower_0 1 rfl rfl)
theorem dX7_lower_4 : decode cX7_lower 4 = .ok (.invokevirtual 200, 3) := dk_182 0 200 (dk_at dksX7_lower_0 4 rfl rfl)
theorem dX7_lower_7 : decode cX7_lower 7 = .ok (.ifCond .eq 12, 3) := dk_153 0 12 (dk_at dksX7_lower_0 7 rfl rfl)
theorem dX7_lower_10 : decode cX7_lower 10 = .ok (.aload_n 1, 1) := dk_43 (dk_at dksX7_lower_0 10 rfl rfl)
theorem dX7_lower_11 : decode cX7_lower 11 = .ok (.getfield 218, 3) := dk_180 0 218 (dk_at dksX7_lower_0 11 rfl rfl)
theorem dX7_lower_14 : decode cX7_lower 14 = .ok (.iconst 1, 1) := dk_4 (dk_at dksX7_lower_0 14 rfl rfl)
theorem dX7_lower_15 : decode cX7_lower 15 = .ok (.invokevirtual 148, 3) := dk_182 0 148 (dk_at dksX7_lower_0 15 rfl rfl)
theorem dX7_lower_18 : decode cX7_lower 18 = .ok (.return_, 1) := dk_177 (dk_at dksX7_lower_0 18 rfl rfl)
theorem dX7_lower_19 : decode cX7_lower 19 = .ok (.aload_n 0, 1) := dk_42 (dk_at dksX7_lower_0 19 rfl rfl)
theorem dX7_lower_20 : decode cX7_lower 20 = .ok (.getfield 69, 3) := dk_180 0 69 (dk_at dksX7_lower_0 20 rfl rfl)
theorem dX7_lower_23 : decode cX7_lower 23 = .ok (.aload_n 1, 1) := dk_43 (dk_at dksX7_lower_0 23 rfl rfl)
theorem dX7_lower_24 : decode cX7_lower 24 = .ok (.getfield 215, 3) := dk_180 0 215 (dk_at dksX7_lower_1 0 rfl rfl)
theorem dX7_lower_27 : decode cX7_lower 27 = .ok (.invokevirtual 155, 3) := dk_182 0 155 (dk_at dksX7_lower_1 3 rfl rfl)
theorem dX7_lower_30 : decode cX7_lower 30 = .ok (.aload_n 0, 1) := dk_42 (dk_at dksX7_lower_1 6 rfl rfl)
theorem dX7_lower_31 : decode cX7_lower 31 = .ok (.getfield 69, 3) := dk_180 0 69 (dk_at dksX7_lower_1 7 rfl rfl)
theorem dX7_lower_34 : decode cX7_lower 34 = .ok (.iconst 0, 1) := dk_3 (dk_at dksX7_lower_1 10 rfl rfl)
theorem dX7_lower_35 : decode cX7_lower 35 = .ok (.putfield 197, 3) := dk_181 0 197 (dk_at dksX7_lower_1 11 rfl rfl)
theorem dX7_lower_38 : decode cX7_lower 38 = .ok (.aload_n 0, 1) := dk_42 (dk_at dksX7_lower_1 14 rfl rfl)
theorem dX7_lower_39 : decode cX7_lower 39 = .ok (.getfield 84, 3) := dk_180 0 84 (dk_at dksX7_lower_1 15 rfl rfl)
theorem dX7_lower_42 : decode cX7_lower 42 = .ok (.aload_n 0, 1) := dk_42 (dk_at dksX7_lower_1 18 rfl rfl)
theorem dX7_lower_43 : decode cX7_lower 43 = .ok (.getfield 69, 3) := dk_180 0 69 (dk_at dksX7_lower_1 19 rfl rfl)
theorem dX7_lower_46 : decode cX7_lower 46 = .ok (.aload_n 1, 1) := dk_43 (dk_at dksX7_lower_1 22 rfl rfl)
theorem dX7_lower_47 : decode cX7_lower 47 = .ok (.getfield 218, 3) := dk_180 0 218 (dk_at dksX7_lower_2 0 rfl rfl)
theorem dX7_lower_50 : decode cX7_lower 50 = .ok (.invokevirtual 240, 3) := dk_182 0 240 (dk_at dksX7_lower_2 3 rfl rfl)
theorem dX7_lower_53 : decode cX7_lower 53 = .ok (.aload_n 0, 1) := dk_42 (dk_at dksX7_lower_2 6 rfl rfl)
theorem dX7_lower_54 : decode cX7_lower 54 = .ok (.getfield 84, 3) := dk_180 0 84 (dk_at dksX7_lower_2 7 rfl rfl)
theorem dX7_lower_57 : decode cX7_lower 57 = .ok (.aload_n 1, 1) := dk_43 (dk_at dksX7_lower_2 10 rfl rfl)
theorem dX7_lower_58 : decode cX7_lower 58 = .ok (.getfield 215, 3) := dk_180 0 215 (dk_at dksX7_lower_2 11 rfl rfl)
theorem dX7_lower_61 : decode cX7_lower 61 = .ok (.aload_n 0, 1) := dk_42 (dk_at dksX7_lower_2 14 rfl rfl)
theorem dX7_lower_62 : decode cX7_lower 62 = .ok (.getfield 69, 3) := dk_180 0 69 (dk_at dksX7_lower_2 15 rfl rfl)
theorem dX7_lower_65 : decode cX7_lower 65 = .ok (.invokevirtual 243, 3) := dk_182 0 243 (dk_at dksX7_lower_2 18 rfl rfl)
theorem dX7_lower_68 : decode cX7_lower 68 = .ok (.aload_n 0, 1) := dk_42 (dk_at dksX7_lower_2 21 rfl rfl)
theorem dX7_lower_69 : decode cX7_lower 69 = .ok (.getfield 84, 3) := dk_180 0 84 (dk_at dksX7_lower_3 0 rfl rfl)
theorem dX7_lower_72 : decode cX7_lower 72 = .ok (.aload_n 1, 1) := dk_43 (dk_at dksX7_lower_3 3 rfl rfl)
theorem dX7_lower_73 : decode cX7_lower 73 = .ok (.getfield 218, 3) := dk_180 0 218 (dk_at dksX7_lower_3 4 rfl rfl)
theorem dX7_lower_76 : decode cX7_lower 76 = .ok (.aload_n 0, 1) := dk_42 (dk_at dksX7_lower_3 7 rfl rfl)
theorem dX7_lower_77 : decode cX7_lower 77 = .ok (.getfield 69, 3) := dk_180 0 69 (dk_at dksX7_lower_3 8 rfl rfl)
theorem dX7_lower_80 : decode cX7_lower 80 = .ok (.invokevirtual 243, 3) := dk_182 0 243 (dk_at dksX7_lower_3 11 rfl rfl)
theorem dX7_lower_83 : decode cX7_lower 83 = .ok (.return_, 1) := dk_177 (dk_at dksX7_lower_3 14 rfl rfl)
abbrev cX7_purity : ByteArray := prog_42_method_27_code
def yX7_purity : MethodName := ⟨RX7, "purity", "(III)J"⟩
def dkwX7_purity_8 : List UInt8 := [42, 180, 0, 59, 42, 180, 0, 63, 182, 0, 187, 42, 180, 0, 52, 29, 182, 0, 209, 173]
abbrev dktX7_purity_8 : List UInt8 := dkwX7_purity_8 ++ []
def dkwX7_purity_7 : List UInt8 := [180, 0, 215, 182, 0, 155, 42, 180, 0, 63, 42, 180, 0, 52, 180, 0, 215, 182, 0, 155, 42, 180, 0, 52]
abbrev dktX7_purity_7 : List UInt8 := dkwX7_purity_7 ++ dktX7_purity_8
def dkwX7_purity_6 : List UInt8 := [153, 0, 7, 20, 0, 213, 173, 42, 180, 0, 59, 42, 180, 0, 47, 16, 9, 6, 27, 104, 96, 28, 96, 50]
abbrev dktX7_purity_6 : List UInt8 := dkwX7_purity_6 ++ dktX7_purity_7
def dkwX7_purity_5 : List UInt8 := [180, 0, 215, 3, 182, 0, 221, 132, 4, 1, 167, 255, 219, 42, 180, 0, 52, 180, 0, 215, 182, 0, 200]
abbrev dktX7_purity_5 : List UInt8 := dkwX7_purity_5 ++ dktX7_purity_6
def dkwX7_purity_4 : List UInt8 := [180, 0, 88, 162, 0, 34, 42, 180, 0, 52, 42, 180, 0, 47, 16, 9, 6, 27, 104, 96, 21, 4, 96, 50]
abbrev dktX7_purity_4 : List UInt8 := dkwX7_purity_4 ++ dktX7_purity_5
def dkwX7_purity_3 : List UInt8 := [180, 0, 47, 16, 9, 6, 27, 104, 96, 50, 180, 0, 218, 182, 0, 155, 4, 54, 4, 21, 4, 42]
abbrev dktX7_purity_3 : List UInt8 := dkwX7_purity_3 ++ dktX7_purity_4
def dkwX7_purity_2 : List UInt8 := [180, 0, 47, 16, 9, 6, 27, 104, 96, 50, 180, 0, 215, 182, 0, 155, 42, 180, 0, 52, 180, 0, 218, 42]
abbrev dktX7_purity_2 : List UInt8 := dkwX7_purity_2 ++ dktX7_purity_3
def dkwX7_purity_1 : List UInt8 := [153, 0, 10, 29, 184, 0, 206, 154, 0, 7, 20, 0, 213, 173, 42, 180, 0, 52, 180, 0, 215, 42]
abbrev dktX7_purity_1 : List UInt8 := dkwX7_purity_1 ++ dktX7_purity_2
def dkwX7_purity_0 : List UInt8 := [42, 180, 0, 163, 153, 0, 30, 27, 155, 0, 26, 27, 42, 180, 0, 177, 162, 0, 18, 42, 28, 182, 0, 108]
abbrev dktX7_purity_0 : List UInt8 := dkwX7_purity_0 ++ dktX7_purity_1
theorem dksX7_purity_0 : cX7_purity.data.toList.drop 0 = dktX7_purity_0 := by decide +kernel
theorem dksX7_purity_1 : cX7_purity.data.toList.drop 24 = dktX7_purity_1 := dk_seg dksX7_purity_0 24 rfl rfl
theorem dksX7_purity_2 : cX7_purity.data.toList.drop 46 = dktX7_purity_2 := dk_seg dksX7_purity_1 22 rfl rfl
theorem dksX7_purity_3 : cX7_purity.data.toList.drop 70 = dktX7_purity_3 := dk_seg dksX7_purity_2 24 rfl rfl
theorem dksX7_purity_4 : cX7_purity.data.toList.drop 92 = dktX7_purity_4 := dk_seg dksX7_purity_3 22 rfl rfl
theorem dksX7_purity_5 : cX7_purity.data.toList.drop 116 = dktX7_purity_5 := dk_seg dksX7_purity_4 24 rfl rfl
theorem dksX7_purity_6 : cX7_purity.data.toList.drop 139 = dktX7_purity_6 := dk_seg dksX7_purity_5 23 rfl rfl
theorem dksX7_purity_7 : cX7_purity.data.toList.drop 163 = dktX7_purity_7 := dk_seg dksX7_purity_6 24 rfl rfl
theorem dksX7_purity_8 : cX7_purity.data.toList.drop 187 = dktX7_purity_8 := dk_seg dksX7_purity_7 24 rfl rfl
theorem dX7_purity_0 : decode cX7_purity 0 = .ok (.aload_n 0, 1) := dk_42 (dk_at dksX7_purity_0 0 rfl rfl)
theorem dX7_purity_1 : decode cX7_purity 1 = .ok (.getfield 163, 3) := dk_180 0 163 (dk_at dksX7_purity_0 1 rfl rfl)
theorem dX7_purity_4 : decode cX7_purity 4 = .ok (.ifCond .eq 30, 3) := dk_153 0 30 (dk_at dksX7_purity_0 4 rfl rfl)
theorem dX7_purity_7 : decode cX7_purity 7 = .ok (.iload_n 1, 1) := dk_27 (dk_at dksX7_purity_0 7 rfl rfl)
theorem dX7_purity_8 : decode cX7_purity 8 = .ok (.ifCond .lt 26, 3) := dk_155 0 26 (dk_at dksX7_purity_0 8 rfl rfl)
theorem dX7_purity_11 : decode cX7_purity 11 = .ok (.iload_n 1, 1) := dk_27 (dk_at dksX7_purity_0 11 rfl rfl)
theorem dX7_purity_12 : decode cX7_purity 12 = .ok (.aload_n 0, 1) := dk_42 (dk_at dksX7_purity_0 12 rfl rfl)
theorem dX7_purity_13 : decode cX7_purity 13 = .ok (.getfield 177, 3) := dk_180 0 177 (dk_at dksX7_purity_0 13 rfl rfl)
theorem dX7_purity_16 : decode cX7_purity 16 = .ok (.if_icmp .ge 18, 3) := dk_162 0 18 (dk_at dksX7_purity_0 16 rfl rfl)
theorem dX7_purity_19 : decode cX7_purity 19 = .ok (.aload_n 0, 1) := dk_42 (dk_at dksX7_purity_0 19 rfl rfl)
theorem dX7_purity_20 : decode cX7_purity 20 = .ok (.iload_n 2, 1) := dk_28 (dk_at dksX7_purity_0 20 rfl rfl)
theorem dX7_purity_21 : decode cX7_purity 21 = .ok (.invokevirtual 108, 3) := dk_182 0 108 (dk_at dksX7_purity_0 21 rfl rfl)
theorem dX7_purity_24 : decode cX7_purity 24 = .ok (.ifCond .eq 10, 3) := dk_153 0 10 (dk_at dksX7_purity_1 0 rfl rfl)
theorem dX7_purity_27 : decode cX7_purity 27 = .ok (.iload_n 3, 1) := dk_29 (dk_at dksX7_purity_1 3 rfl rfl)
theorem dX7_purity_28 : decode cX7_purity 28 = .ok (.invokestatic 206, 3) := dk_184 0 206 (dk_at dksX7_purity_1 4 rfl rfl)
theorem dX7_purity_31 : decode cX7_purity 31 = .ok (.ifCond .ne 7, 3) := dk_154 0 7 (dk_at dksX7_purity_1 7 rfl rfl)
theorem dX7_purity_34 : decode cX7_purity 34 = .ok (.ldc2_w 213, 3) := dk_20 0 213 (dk_at dksX7_purity_1 10 rfl rfl)
theorem dX7_purity_37 : decode cX7_purity 37 = .ok (.lreturn, 1) := dk_173 (dk_at dksX7_purity_1 13 rfl rfl)
theorem dX7_purity_38 : decode cX7_purity 38 = .ok (.aload_n 0, 1) := dk_42 (dk_at dksX7_purity_1 14 rfl rfl)
theorem dX7_purity_39 : decode cX7_purity 39 = .ok (.getfield 52, 3) := dk_180 0 52 (dk_at dksX7_purity_1 15 rfl rfl)
theorem dX7_purity_42 : decode cX7_purity 42 = .ok (.getfield 215, 3) := dk_180 0 215 (dk_at dksX7_purity_1 18 rfl rfl)
theorem dX7_purity_45 : decode cX7_purity 45 = .ok (.aload_n 0, 1) := dk_42 (dk_at dksX7_purity_1 21 rfl rfl)
theorem dX7_purity_46 : decode cX7_purity 46 = .ok (.getfield 47, 3) := dk_180 0 47 (dk_at dksX7_purity_2 0 rfl rfl)
theorem dX7_purity_49 : decode cX7_purity 49 = .ok (.bipush 9, 2) := dk_16 9 (dk_at dksX7_purity_2 3 rfl rfl)
theorem dX7_purity_51 : decode cX7_purity 51 = .ok (.iconst 3, 1) := dk_6 (dk_at dksX7_purity_2 5 rfl rfl)
theorem dX7_purity_52 : decode cX7_purity 52 = .ok (.iload_n 1, 1) := dk_27 (dk_at dksX7_purity_2 6 rfl rfl)
theorem dX7_purity_53 : decode cX7_purity 53 = .ok (.imul, 1) := dk_104 (dk_at dksX7_purity_2 7 rfl rfl)
theorem dX7_purity_54 : decode cX7_purity 54 = .ok (.iadd, 1) := dk_96 (dk_at dksX7_purity_2 8 rfl rfl)
theorem dX7_purity_55 : decode cX7_purity 55 = .ok (.aaload, 1) := dk_50 (dk_at dksX7_purity_2 9 rfl rfl)
theorem dX7_purity_56 : decode cX7_purity 56 = .ok (.getfield 215, 3) := dk_180 0 215 (dk_at dksX7_purity_2 10 rfl rfl)
theorem dX7_purity_59 : decode cX7_purity 59 = .ok (.invokevirtual 155, 3) := dk_182 0 155 (dk_at dksX7_purity_2 13 rfl rfl)
theorem dX7_purity_62 : decode cX7_purity 62 = .ok (.aload_n 0, 1) := dk_42 (dk_at dksX7_purity_2 16 rfl rfl)
theorem dX7_purity_63 : decode cX7_purity 63 = .ok (.getfield 52, 3) := dk_180 0 52 (dk_at dksX7_purity_2 17 rfl rfl)
theorem dX7_purity_66 : decode cX7_purity 66 = .ok (.getfield 218, 3) := dk_180 0 218 (dk_at dksX7_purity_2 20 rfl rfl)
theorem dX7_purity_69 : decode cX7_purity 69 = .ok (.aload_n 0, 1) := dk_42 (dk_at dksX7_purity_2 23 rfl rfl)
theorem dX7_purity_70 : decode cX7_purity 70 = .ok (.getfield 47, 3) := dk_180 0 47 (dk_at dksX7_purity_3 0 rfl rfl)
theorem dX7_purity_73 : decode cX7_purity 73 = .ok (.bipush 9, 2) := dk_16 9 (dk_at dksX7_purity_3 3 rfl rfl)
theorem dX7_purity_75 : decode cX7_purity 75 = .ok (.iconst 3, 1) := dk_6 (dk_at dksX7_purity_3 5 rfl rfl)
theorem dX7_purity_76 : decode cX7_purity 76 = .ok (.iload_n 1, 1) := dk_27 (dk_at dksX7_purity_3 6 rfl rfl)
theorem dX7_purity_77 : decode cX7_purity 77 = .ok (.imul, 1) := dk_104 (dk_at dksX7_purity_3 7 rfl rfl)
theorem dX7_purity_78 : decode cX7_purity 78 = .ok (.iadd, 1) := dk_96 (dk_at dksX7_purity_3 8 rfl rfl)
theorem dX7_purity_79 : decode cX7_purity 79 = .ok (.aaload, 1) := dk_50 (dk_at dksX7_purity_3 9 rfl rfl)
theorem dX7_purity_80 : decode cX7_purity 80 = .ok (.getfield 218, 3) := dk_180 0 218 (dk_at dksX7_purity_3 10 rfl rfl)
theorem dX7_purity_83 : decode cX7_purity 83 = .ok (.invokevirtual 155, 3) := dk_182 0 155 (dk_at dksX7_purity_3 13 rfl rfl)
theorem dX7_purity_86 : decode cX7_purity 86 = .ok (.iconst 1, 1) := dk_4 (dk_at dksX7_purity_3 16 rfl rfl)
theorem dX7_purity_87 : decode cX7_purity 87 = .ok (.istore 4, 2) := dk_54 4 (dk_at dksX7_purity_3 17 rfl rfl)
theorem dX7_purity_89 : decode cX7_purity 89 = .ok (.iload 4, 2) := dk_21 4 (dk_at dksX7_purity_3 19 rfl rfl)
theorem dX7_purity_91 : decode cX7_purity 91 = .ok (.aload_n 0, 1) := dk_42 (dk_at dksX7_purity_3 21 rfl rfl)
theorem dX7_purity_92 : decode cX7_purity 92 = .ok (.getfield 88, 3) := dk_180 0 88 (dk_at dksX7_purity_4 0 rfl rfl)
theorem dX7_purity_95 : decode cX7_purity 95 = .ok (.if_icmp .ge 34, 3) := dk_162 0 34 (dk_at dksX7_purity_4 3 rfl rfl)
theorem dX7_purity_98 : decode cX7_purity 98 = .ok (.aload_n 0, 1) := dk_42 (dk_at dksX7_purity_4 6 rfl rfl)
theorem dX7_purity_99 : decode cX7_purity 99 = .ok (.getfield 52, 3) := dk_180 0 52 (dk_at dksX7_purity_4 7 rfl rfl)
theorem dX7_purity_102 : decode cX7_purity 102 = .ok (.aload_n 0, 1) := dk_42 (dk_at dksX7_purity_4 10 rfl rfl)
theorem dX7_purity_103 : decode cX7_purity 103 = .ok (.getfield 47, 3) := dk_180 0 47 (dk_at dksX7_purity_4 11 rfl rfl)
theorem dX7_purity_106 : decode cX7_purity 106 = .ok (.bipush 9, 2) := dk_16 9 (dk_at dksX7_purity_4 14 rfl rfl)
theorem dX7_purity_108 : decode cX7_purity 108 = .ok (.iconst 3, 1) := dk_6 (dk_at dksX7_purity_4 16 rfl rfl)
theorem dX7_purity_109 : decode cX7_purity 109 = .ok (.iload_n 1, 1) := dk_27 (dk_at dksX7_purity_4 17 rfl rfl)
theorem dX7_purity_110 : decode cX7_purity 110 = .ok (.imul, 1) := dk_104 (dk_at dksX7_purity_4 18 rfl rfl)
theorem dX7_purity_111 : decode cX7_purity 111 = .ok (.iadd, 1) := dk_96 (dk_at dksX7_purity_4 19 rfl rfl)
theorem dX7_purity_112 : decode cX7_purity 112 = .ok (.iload 4, 2) := dk_21 4 (dk_at dksX7_purity_4 20 rfl rfl)
theorem dX7_purity_114 : decode cX7_purity 114 = .ok (.iadd, 1) := dk_96 (dk_at dksX7_purity_4 22 rfl rfl)
theorem dX7_purity_115 : decode cX7_purity 115 = .ok (.aaload, 1) := dk_50 (dk_at dksX7_purity_4 23 rfl rfl)
theorem dX7_purity_116 : decode cX7_purity 116 = .ok (.getfield 215, 3) := dk_180 0 215 (dk_at dksX7_purity_5 0 rfl rfl)
theorem dX7_purity_119 : decode cX7_purity 119 = .ok (.iconst 0, 1) := dk_3 (dk_at dksX7_purity_5 3 rfl rfl)
theorem dX7_purity_120 : decode cX7_purity 120 = .ok (.invokevirtual 221, 3) := dk_182 0 221 (dk_at dksX7_purity_5 4 rfl rfl)
theorem dX7_purity_123 : decode cX7_purity 123 = .ok (.iinc 4 1, 3) := dk_132 4 1 (dk_at dksX7_purity_5 7 rfl rfl)
theorem dX7_purity_126 : decode cX7_purity 126 = .ok (.goto (-37), 3) := dk_167 255 219 (dk_at dksX7_purity_5 10 rfl rfl)
theorem dX7_purity_129 : decode cX7_purity 129 = .ok (.aload_n 0, 1) := dk_42 (dk_at dksX7_purity_5 13 rfl rfl)
theorem dX7_purity_130 : decode cX7_purity 130 = .ok (.getfield 52, 3) := dk_180 0 52 (dk_at dksX7_purity_5 14 rfl rfl)
theorem dX7_purity_133 : decode cX7_purity 133 = .ok (.getfield 215, 3) := dk_180 0 215 (dk_at dksX7_purity_5 17 rfl rfl)
theorem dX7_purity_136 : decode cX7_purity 136 = .ok (.invokevirtual 200, 3) := dk_182 0 200 (dk_at dksX7_purity_5 20 rfl rfl)
theorem dX7_purity_139 : decode cX7_purity 139 = .ok (.ifCond .eq 7, 3) := dk_153 0 7 (dk_at dksX7_purity_6 0 rfl rfl)
theorem dX7_purity_142 : decode cX7_purity 142 = .ok (.ldc2_w 213, 3) := dk_20 0 213 (dk_at dksX7_purity_6 3 rfl rfl)
theorem dX7_purity_145 : decode cX7_purity 145 = .ok (.lreturn, 1) := dk_173 (dk_at dksX7_purity_6 6 rfl rfl)
theorem dX7_purity_146 : decode cX7_purity 146 = .ok (.aload_n 0, 1) := dk_42 (dk_at dksX7_purity_6 7 rfl rfl)
theorem dX7_purity_147 : decode cX7_purity 147 = .ok (.getfield 59, 3) := dk_180 0 59 (dk_at dksX7_purity_6 8 rfl rfl)
theorem dX7_purity_150 : decode cX7_purity 150 = .ok (.aload_n 0, 1) := dk_42 (dk_at dksX7_purity_6 11 rfl rfl)
theorem dX7_purity_151 : decode cX7_purity 151 = .ok (.getfield 47, 3) := dk_180 0 47 (dk_at dksX7_purity_6 12 rfl rfl)
theorem dX7_purity_154 : decode cX7_purity 154 = .ok (.bipush 9, 2) := dk_16 9 (dk_at dksX7_purity_6 15 rfl rfl)
theorem dX7_purity_156 : decode cX7_purity 156 = .ok (.iconst 3, 1) := dk_6 (dk_at dksX7_purity_6 17 rfl rfl)
theorem dX7_purity_157 : decode cX7_purity 157 = .ok (.iload_n 1, 1) := dk_27 (dk_at dksX7_purity_6 18 rfl rfl)
theorem dX7_purity_158 : decode cX7_purity 158 = .ok (.imul, 1) := dk_104 (dk_at dksX7_purity_6 19 rfl rfl)
theorem dX7_purity_159 : decode cX7_purity 159 = .ok (.iadd, 1) := dk_96 (dk_at dksX7_purity_6 20 rfl rfl)
theorem dX7_purity_160 : decode cX7_purity 160 = .ok (.iload_n 2, 1) := dk_28 (dk_at dksX7_purity_6 21 rfl rfl)
theorem dX7_purity_161 : decode cX7_purity 161 = .ok (.iadd, 1) := dk_96 (dk_at dksX7_purity_6 22 rfl rfl)
theorem dX7_purity_162 : decode cX7_purity 162 = .ok (.aaload, 1) := dk_50 (dk_at dksX7_purity_6 23 rfl rfl)
theorem dX7_purity_163 : decode cX7_purity 163 = .ok (.getfield 215, 3) := dk_180 0 215 (dk_at dksX7_purity_7 0 rfl rfl)
theorem dX7_purity_166 : decode cX7_purity 166 = .ok (.invokevirtual 155, 3) := dk_182 0 155 (dk_at dksX7_purity_7 3 rfl rfl)
theorem dX7_purity_169 : decode cX7_purity 169 = .ok (.aload_n 0, 1) := dk_42 (dk_at dksX7_purity_7 6 rfl rfl)
theorem dX7_purity_170 : decode cX7_purity 170 = .ok (.getfield 63, 3) := dk_180 0 63 (dk_at dksX7_purity_7 7 rfl rfl)
theorem dX7_purity_173 : decode cX7_purity 173 = .ok (.aload_n 0, 1) := dk_42 (dk_at dksX7_purity_7 10 rfl rfl)
theorem dX7_purity_174 : decode cX7_purity 174 = .ok (.getfield 52, 3) := dk_180 0 52 (dk_at dksX7_purity_7 11 rfl rfl)
theorem dX7_purity_177 : decode cX7_purity 177 = .ok (.getfield 215, 3) := dk_180 0 215 (dk_at dksX7_purity_7 14 rfl rfl)
theorem dX7_purity_180 : decode cX7_purity 180 = .ok (.invokevirtual 155, 3) := dk_182 0 155 (dk_at dksX7_purity_7 17 rfl rfl)
theorem dX7_purity_183 : decode cX7_purity 183 = .ok (.aload_n 0, 1) := dk_42 (dk_at dksX7_purity_7 20 rfl rfl)
theorem dX7_purity_184 : decode cX7_purity 184 = .ok (.getfield 52, 3) := dk_180 0 52 (dk_at dksX7_purity_7 21 rfl rfl)
theorem dX7_purity_187 : decode cX7_purity 187 = .ok (.aload_n 0, 1) := dk_42 (dk_at dksX7_purity_8 0 rfl rfl)
theorem dX7_purity_188 : decode cX7_purity 188 = .ok (.getfield 59, 3) := dk_180 0 59 (dk_at dksX7_purity_8 1 rfl rfl)
theorem dX7_purity_191 : decode cX7_purity 191 = .ok (.aload_n 0, 1) := dk_42 (dk_at dksX7_purity_8 4 rfl rfl)
theorem dX7_purity_192 : decode cX7_purity 192 = .ok (.getfield 63, 3) := dk_180 0 63 (dk_at dksX7_purity_8 5 rfl rfl)
theorem dX7_purity_195 : decode cX7_purity 195 = .ok (.invokevirtual 187, 3) := dk_182 0 187 (dk_at dksX7_purity_8 8 rfl rfl)
theorem dX7_purity_198 : decode cX7_purity 198 = .ok (.aload_n 0, 1) := dk_42 (dk_at dksX7_purity_8 11 rfl rfl)
theorem dX7_purity_199 : decode cX7_purity 199 = .ok (.getfield 52, 3) := dk_180 0 52 (dk_at dksX7_purity_8 12 rfl rfl)
theorem dX7_purity_202 : decode cX7_purity 202 = .ok (.iload_n 3, 1) := dk_29 (dk_at dksX7_purity_8 15 rfl rfl)
theorem dX7_purity_203 : decode cX7_purity 203 = .ok (.invokevirtual 209, 3) := dk_182 0 209 (dk_at dksX7_purity_8 16 rfl rfl)
theorem dX7_purity_206 : decode cX7_purity 206 = .ok (.lreturn, 1) := dk_173 (dk_at dksX7_purity_8 19 rfl rfl)
abbrev cX7_change : ByteArray := prog_42_method_31_code
def yX7_change : MethodName := ⟨RX7, "change", "(IIIJJ)Z"⟩
def dkwX7_change_1 : List UInt8 := [21, 8, 172]
abbrev dktX7_change_1 : List UInt8 := dkwX7_change_1 ++ []
def dkwX7_change_0 : List UInt8 := [42, 27, 28, 29, 22, 4, 22, 6, 182, 0, 246, 54, 8, 21, 8, 153, 0, 9, 42, 182, 0, 250, 54, 9]
abbrev dktX7_change_0 : List UInt8 := dkwX7_change_0 ++ dktX7_change_1
theorem dksX7_change_0 : cX7_change.data.toList.drop 0 = dktX7_change_0 := by decide +kernel
theorem dksX7_change_1 : cX7_change.data.toList.drop 24 = dktX7_change_1 := dk_seg dksX7_change_0 24 rfl rfl
theorem dX7_change_0 : decode cX7_change 0 = .ok (.aload_n 0, 1) := dk_42 (dk_at dksX7_change_0 0 rfl rfl)
theorem dX7_change_1 : decode cX7_change 1 = .ok (.iload_n 1, 1) := dk_27 (dk_at dksX7_change_0 1 rfl rfl)
theorem dX7_change_2 : decode cX7_change 2 = .ok (.iload_n 2, 1) := dk_28 (dk_at dksX7_change_0 2 rfl rfl)
theorem dX7_change_3 : decode cX7_change 3 = .ok (.iload_n 3, 1) := dk_29 (dk_at dksX7_change_0 3 rfl rfl)
theorem dX7_change_4 : decode cX7_change 4 = .ok (.lload 4, 2) := dk_22 4 (dk_at dksX7_change_0 4 rfl rfl)
theorem dX7_change_6 : decode cX7_change 6 = .ok (.lload 6, 2) := dk_22 6 (dk_at dksX7_change_0 6 rfl rfl)
theorem dX7_change_8 : decode cX7_change 8 = .ok (.invokevirtual 246, 3) := dk_182 0 246 (dk_at dksX7_change_0 8 rfl rfl)
theorem dX7_change_11 : decode cX7_change 11 = .ok (.istore 8, 2) := dk_54 8 (dk_at dksX7_change_0 11 rfl rfl)
theorem dX7_change_13 : decode cX7_change 13 = .ok (.iload 8, 2) := dk_21 8 (dk_at dksX7_change_0 13 rfl rfl)
theorem dX7_change_15 : decode cX7_change 15 = .ok (.ifCond .eq 9, 3) := dk_153 0 9 (dk_at dksX7_change_0 15 rfl rfl)
theorem dX7_change_18 : decode cX7_change 18 = .ok (.aload_n 0, 1) := dk_42 (dk_at dksX7_change_0 18 rfl rfl)
theorem dX7_change_19 : decode cX7_change 19 = .ok (.invokevirtual 250, 3) := dk_182 0 250 (dk_at dksX7_change_0 19 rfl rfl)
theorem dX7_change_22 : decode cX7_change 22 = .ok (.istore 9, 2) := dk_54 9 (dk_at dksX7_change_0 22 rfl rfl)
theorem dX7_change_24 : decode cX7_change 24 = .ok (.iload 8, 2) := dk_21 8 (dk_at dksX7_change_1 0 rfl rfl)
theorem dX7_change_26 : decode cX7_change 26 = .ok (.ireturn, 1) := dk_172 (dk_at dksX7_change_1 2 rfl rfl)
abbrev cX7_find : ByteArray := prog_42_method_32_code
def yX7_find : MethodName := ⟨RX7, "find", "(IIJ)I"⟩
def dkwX7_find_8 : List UInt8 := [182, 0, 250, 54, 10, 21, 8, 172]
abbrev dktX7_find_8 : List UInt8 := dkwX7_find_8 ++ []
def dkwX7_find_7 : List UInt8 := [4, 96, 54, 8, 167, 255, 179, 21, 9, 154, 0, 14, 42, 180, 0, 16, 21, 5, 21, 6, 79, 2, 172, 42]
abbrev dktX7_find_7 : List UInt8 := dkwX7_find_7 ++ dktX7_find_8
def dkwX7_find_6 : List UInt8 := [182, 0, 252, 153, 0, 7, 4, 167, 0, 4, 3, 54, 9, 21, 8, 21, 9, 153, 0, 7, 3, 167, 0, 4]
abbrev dktX7_find_6 : List UInt8 := dkwX7_find_6 ++ dktX7_find_7
def dkwX7_find_5 : List UInt8 := [180, 0, 16, 21, 5, 46, 21, 7, 163, 0, 25, 42, 182, 0, 159, 2, 160, 0, 17, 42, 28, 33, 136]
abbrev dktX7_find_5 : List UInt8 := dkwX7_find_5 ++ dktX7_find_6
def dkwX7_find_4 : List UInt8 := [16, 12, 163, 0, 76, 21, 9, 154, 0, 71, 42, 180, 0, 16, 21, 5, 17, 9, 6, 21, 8, 104, 79, 42]
abbrev dktX7_find_4 : List UInt8 := dkwX7_find_4 ++ dktX7_find_5
def dkwX7_find_3 : List UInt8 := [42, 180, 0, 7, 27, 46, 4, 100, 182, 0, 117, 21, 6, 96, 54, 7, 3, 54, 8, 3, 54, 9, 21, 8]
abbrev dktX7_find_3 : List UInt8 := dkwX7_find_3 ++ dktX7_find_4
def dkwX7_find_2 : List UInt8 := [2, 172, 16, 9, 27, 104, 6, 28, 104, 96, 54, 5, 42, 180, 0, 16, 21, 5, 46, 54, 6, 42, 27, 28]
abbrev dktX7_find_2 : List UInt8 := dkwX7_find_2 ++ dktX7_find_3
def dkwX7_find_1 : List UInt8 := [161, 0, 24, 42, 180, 0, 101, 153, 0, 17, 33, 9, 148, 155, 0, 11, 33, 20, 0, 123, 148, 158, 0, 5]
abbrev dktX7_find_1 : List UInt8 := dkwX7_find_1 ++ dktX7_find_2
def dkwX7_find_0 : List UInt8 := [42, 27, 182, 0, 104, 153, 0, 42, 42, 28, 182, 0, 108, 153, 0, 34, 42, 180, 0, 7, 27, 46, 5]
abbrev dktX7_find_0 : List UInt8 := dkwX7_find_0 ++ dktX7_find_1
theorem dksX7_find_0 : cX7_find.data.toList.drop 0 = dktX7_find_0 := by decide +kernel
theorem dksX7_find_1 : cX7_find.data.toList.drop 23 = dktX7_find_1 := dk_seg dksX7_find_0 23 rfl rfl
theorem dksX7_find_2 : cX7_find.data.toList.drop 47 = dktX7_find_2 := dk_seg dksX7_find_1 24 rfl rfl
theorem dksX7_find_3 : cX7_find.data.toList.drop 71 = dktX7_find_3 := dk_seg dksX7_find_2 24 rfl rfl
theorem dksX7_find_4 : cX7_find.data.toList.drop 95 = dktX7_find_4 := dk_seg dksX7_find_3 24 rfl rfl
theorem dksX7_find_5 : cX7_find.data.toList.drop 119 = dktX7_find_5 := dk_seg dksX7_find_4 24 rfl rfl
theorem dksX7_find_6 : cX7_find.data.toList.drop 142 = dktX7_find_6 := dk_seg dksX7_find_5 23 rfl rfl
theorem dksX7_find_7 : cX7_find.data.toList.drop 166 = dktX7_find_7 := dk_seg dksX7_find_6 24 rfl rfl
theorem dksX7_find_8 : cX7_find.data.toList.drop 190 = dktX7_find_8 := dk_seg dksX7_find_7 24 rfl rfl
theorem dX7_find_0 : decode cX7_find 0 = .ok (.aload_n 0, 1) := dk_42 (dk_at dksX7_find_0 0 rfl rfl)
theorem dX7_find_1 : decode cX7_find 1 = .ok (.iload_n 1, 1) := dk_27 (dk_at dksX7_find_0 1 rfl rfl)
theorem dX7_find_2 : decode cX7_find 2 = .ok (.invokevirtual 104, 3) := dk_182 0 104 (dk_at dksX7_find_0 2 rfl rfl)
theorem dX7_find_5 : decode cX7_find 5 = .ok (.ifCond .eq 42, 3) := dk_153 0 42 (dk_at dksX7_find_0 5 rfl rfl)
theorem dX7_find_8 : decode cX7_find 8 = .ok (.aload_n 0, 1) := dk_42 (dk_at dksX7_find_0 8 rfl rfl)
theorem dX7_find_9 : decode cX7_find 9 = .ok (.iload_n 2, 1) := dk_28 (dk_at dksX7_find_0 9 rfl rfl)
theorem dX7_find_10 : decode cX7_find 10 = .ok (.invokevirtual 108, 3) := dk_182 0 108 (dk_at dksX7_find_0 10 rfl rfl)
theorem dX7_find_13 : decode cX7_find 13 = .ok (.ifCond .eq 34, 3) := dk_153 0 34 (dk_at dksX7_find_0 13 rfl rfl)
theorem dX7_find_16 : decode cX7_find 16 = .ok (.aload_n 0, 1) := dk_42 (dk_at dksX7_find_0 16 rfl rfl)
theorem dX7_find_17 : decode cX7_find 17 = .ok (.getfield 7, 3) := dk_180 0 7 (dk_at dksX7_find_0 17 rfl rfl)
theorem dX7_find_20 : decode cX7_find 20 = .ok (.iload_n 1, 1) := dk_27 (dk_at dksX7_find_0 20 rfl rfl)
theorem dX7_find_21 : decode cX7_find 21 = .ok (.iaload, 1) := dk_46 (dk_at dksX7_find_0 21 rfl rfl)
theorem dX7_find_22 : decode cX7_find 22 = .ok (.iconst 2, 1) := dk_5 (dk_at dksX7_find_0 22 rfl rfl)
theorem dX7_find_23 : decode cX7_find 23 = .ok (.if_icmp .lt 24, 3) := dk_161 0 24 (dk_at dksX7_find_1 0 rfl rfl)
theorem dX7_find_26 : decode cX7_find 26 = .ok (.aload_n 0, 1) := dk_42 (dk_at dksX7_find_1 3 rfl rfl)
theorem dX7_find_27 : decode cX7_find 27 = .ok (.getfield 101, 3) := dk_180 0 101 (dk_at dksX7_find_1 4 rfl rfl)
theorem dX7_find_30 : decode cX7_find 30 = .ok (.ifCond .eq 17, 3) := dk_153 0 17 (dk_at dksX7_find_1 7 rfl rfl)
theorem dX7_find_33 : decode cX7_find 33 = .ok (.lload_n 3, 1) := dk_33 (dk_at dksX7_find_1 10 rfl rfl)
theorem dX7_find_34 : decode cX7_find 34 = .ok (.lconst 0, 1) := dk_9 (dk_at dksX7_find_1 11 rfl rfl)
theorem dX7_find_35 : decode cX7_find 35 = .ok (.lcmp, 1) := dk_148 (dk_at dksX7_find_1 12 rfl rfl)
theorem dX7_find_36 : decode cX7_find 36 = .ok (.ifCond .lt 11, 3) := dk_155 0 11 (dk_at dksX7_find_1 13 rfl rfl)
theorem dX7_find_39 : decode cX7_find 39 = .ok (.lload_n 3, 1) := dk_33 (dk_at dksX7_find_1 16 rfl rfl)
theorem dX7_find_40 : decode cX7_find 40 = .ok (.ldc2_w 123, 3) := dk_20 0 123 (dk_at dksX7_find_1 17 rfl rfl)
theorem dX7_find_43 : decode cX7_find 43 = .ok (.lcmp, 1) := dk_148 (dk_at dksX7_find_1 20 rfl rfl)
theorem dX7_find_44 : decode cX7_find 44 = .ok (.ifCond .le 5, 3) := dk_158 0 5 (dk_at dksX7_find_1 21 rfl rfl)
theorem dX7_find_47 : decode cX7_find 47 = .ok (.iconst (-1), 1) := dk_2 (dk_at dksX7_find_2 0 rfl rfl)
theorem dX7_find_48 : decode cX7_find 48 = .ok (.ireturn, 1) := dk_172 (dk_at dksX7_find_2 1 rfl rfl)
theorem dX7_find_49 : decode cX7_find 49 = .ok (.bipush 9, 2) := dk_16 9 (dk_at dksX7_find_2 2 rfl rfl)
theorem dX7_find_51 : decode cX7_find 51 = .ok (.iload_n 1, 1) := dk_27 (dk_at dksX7_find_2 4 rfl rfl)
theorem dX7_find_52 : decode cX7_find 52 = .ok (.imul, 1) := dk_104 (dk_at dksX7_find_2 5 rfl rfl)
theorem dX7_find_53 : decode cX7_find 53 = .ok (.iconst 3, 1) := dk_6 (dk_at dksX7_find_2 6 rfl rfl)
theorem dX7_find_54 : decode cX7_find 54 = .ok (.iload_n 2, 1) := dk_28 (dk_at dksX7_find_2 7 rfl rfl)
theorem dX7_find_55 : decode cX7_find 55 = .ok (.imul, 1) := dk_104 (dk_at dksX7_find_2 8 rfl rfl)
theorem dX7_find_56 : decode cX7_find 56 = .ok (.iadd, 1) := dk_96 (dk_at dksX7_find_2 9 rfl rfl)
theorem dX7_find_57 : decode cX7_find 57 = .ok (.istore 5, 2) := dk_54 5 (dk_at dksX7_find_2 10 rfl rfl)
theorem dX7_find_59 : decode cX7_find 59 = .ok (.aload_n 0, 1) := dk_42 (dk_at dksX7_find_2 12 rfl rfl)
theorem dX7_find_60 : decode cX7_find 60 = .ok (.getfield 16, 3) := dk_180 0 16 (dk_at dksX7_find_2 13 rfl rfl)
theorem dX7_find_63 : decode cX7_find 63 = .ok (.iload 5, 2) := dk_21 5 (dk_at dksX7_find_2 16 rfl rfl)
theorem dX7_find_65 : decode cX7_find 65 = .ok (.iaload, 1) := dk_46 (dk_at dksX7_find_2 18 rfl rfl)
theorem dX7_find_66 : decode cX7_find 66 = .ok (.istore 6, 2) := dk_54 6 (dk_at dksX7_find_2 19 rfl rfl)
theorem dX7_find_68 : decode cX7_find 68 = .ok (.aload_n 0, 1) := dk_42 (dk_at dksX7_find_2 21 rfl rfl)
theorem dX7_find_69 : decode cX7_find 69 = .ok (.iload_n 1, 1) := dk_27 (dk_at dksX7_find_2 22 rfl rfl)
theorem dX7_find_70 : decode cX7_find 70 = .ok (.iload_n 2, 1) := dk_28 (dk_at dksX7_find_2 23 rfl rfl)
theorem dX7_find_71 : decode cX7_find 71 = .ok (.aload_n 0, 1) := dk_42 (dk_at dksX7_find_3 0 rfl rfl)
theorem dX7_find_72 : decode cX7_find 72 = .ok (.getfield 7, 3) := dk_180 0 7 (dk_at dksX7_find_3 1 rfl rfl)
theorem dX7_find_75 : decode cX7_find 75 = .ok (.iload_n 1, 1) := dk_27 (dk_at dksX7_find_3 4 rfl rfl)
theorem dX7_find_76 : decode cX7_find 76 = .ok (.iaload, 1) := dk_46 (dk_at dksX7_find_3 5 rfl rfl)
theorem dX7_find_77 : decode cX7_find 77 = .ok (.iconst 1, 1) := dk_4 (dk_at dksX7_find_3 6 rfl rfl)
theorem dX7_find_78 : decode cX7_find 78 = .ok (.isub, 1) := dk_100 (dk_at dksX7_find_3 7 rfl rfl)
theorem dX7_find_79 : decode cX7_find 79 = .ok (.invokevirtual 117, 3) := dk_182 0 117 (dk_at dksX7_find_3 8 rfl rfl)
theorem dX7_find_82 : decode cX7_find 82 = .ok (.iload 6, 2) := dk_21 6 (dk_at dksX7_find_3 11 rfl rfl)
theorem dX7_find_84 : decode cX7_find 84 = .ok (.iadd, 1) := dk_96 (dk_at dksX7_find_3 13 rfl rfl)
theorem dX7_find_85 : decode cX7_find 85 = .ok (.istore 7, 2) := dk_54 7 (dk_at dksX7_find_3 14 rfl rfl)
theorem dX7_find_87 : decode cX7_find 87 = .ok (.iconst 0, 1) := dk_3 (dk_at dksX7_find_3 16 rfl rfl)
theorem dX7_find_88 : decode cX7_find 88 = .ok (.istore 8, 2) := dk_54 8 (dk_at dksX7_find_3 17 rfl rfl)
theorem dX7_find_90 : decode cX7_find 90 = .ok (.iconst 0, 1) := dk_3 (dk_at dksX7_find_3 19 rfl rfl)
theorem dX7_find_91 : decode cX7_find 91 = .ok (.istore 9, 2) := dk_54 9 (dk_at dksX7_find_3 20 rfl rfl)
theorem dX7_find_93 : decode cX7_find 93 = .ok (.iload 8, 2) := dk_21 8 (dk_at dksX7_find_3 22 rfl rfl)
theorem dX7_find_95 : decode cX7_find 95 = .ok (.bipush 12, 2) := dk_16 12 (dk_at dksX7_find_4 0 rfl rfl)
theorem dX7_find_97 : decode cX7_find 97 = .ok (.if_icmp .gt 76, 3) := dk_163 0 76 (dk_at dksX7_find_4 2 rfl rfl)
theorem dX7_find_100 : decode cX7_find 100 = .ok (.iload 9, 2) := dk_21 9 (dk_at dksX7_find_4 5 rfl rfl)
theorem dX7_find_102 : decode cX7_find 102 = .ok (.ifCond .ne 71, 3) := dk_154 0 71 (dk_at dksX7_find_4 7 rfl rfl)
theorem dX7_find_105 : decode cX7_find 105 = .ok (.aload_n 0, 1) := dk_42 (dk_at dksX7_find_4 10 rfl rfl)
theorem dX7_find_106 : decode cX7_find 106 = .ok (.getfield 16, 3) := dk_180 0 16 (dk_at dksX7_find_4 11 rfl rfl)
theorem dX7_find_109 : decode cX7_find 109 = .ok (.iload 5, 2) := dk_21 5 (dk_at dksX7_find_4 14 rfl rfl)
theorem dX7_find_111 : decode cX7_find 111 = .ok (.sipush 2310, 3) := dk_17 9 6 (dk_at dksX7_find_4 16 rfl rfl)
theorem dX7_find_114 : decode cX7_find 114 = .ok (.iload 8, 2) := dk_21 8 (dk_at dksX7_find_4 19 rfl rfl)
theorem dX7_find_116 : decode cX7_find 116 = .ok (.imul, 1) := dk_104 (dk_at dksX7_find_4 21 rfl rfl)
theorem dX7_find_117 : decode cX7_find 117 = .ok (.iastore, 1) := dk_79 (dk_at dksX7_find_4 22 rfl rfl)
theorem dX7_find_118 : decode cX7_find 118 = .ok (.aload_n 0, 1) := dk_42 (dk_at dksX7_find_4 23 rfl rfl)
theorem dX7_find_119 : decode cX7_find 119 = .ok (.getfield 16, 3) := dk_180 0 16 (dk_at dksX7_find_5 0 rfl rfl)
theorem dX7_find_122 : decode cX7_find 122 = .ok (.iload 5, 2) := dk_21 5 (dk_at dksX7_find_5 3 rfl rfl)
theorem dX7_find_124 : decode cX7_find 124 = .ok (.iaload, 1) := dk_46 (dk_at dksX7_find_5 5 rfl rfl)
theorem dX7_find_125 : decode cX7_find 125 = .ok (.iload 7, 2) := dk_21 7 (dk_at dksX7_find_5 6 rfl rfl)
theorem dX7_find_127 : decode cX7_find 127 = .ok (.if_icmp .gt 25, 3) := dk_163 0 25 (dk_at dksX7_find_5 8 rfl rfl)
theorem dX7_find_130 : decode cX7_find 130 = .ok (.aload_n 0, 1) := dk_42 (dk_at dksX7_find_5 11 rfl rfl)
theorem dX7_find_131 : decode cX7_find 131 = .ok (.invokevirtual 159, 3) := dk_182 0 159 (dk_at dksX7_find_5 12 rfl rfl)
theorem dX7_find_134 : decode cX7_find 134 = .ok (.iconst (-1), 1) := dk_2 (dk_at dksX7_find_5 15 rfl rfl)
theorem dX7_find_135 : decode cX7_find 135 = .ok (.if_icmp .ne 17, 3) := dk_160 0 17 (dk_at dksX7_find_5 16 rfl rfl)
theorem dX7_find_138 : decode cX7_find 138 = .ok (.aload_n 0, 1) := dk_42 (dk_at dksX7_find_5 19 rfl rfl)
theorem dX7_find_139 : decode cX7_find 139 = .ok (.iload_n 2, 1) := dk_28 (dk_at dksX7_find_5 20 rfl rfl)
theorem dX7_find_140 : decode cX7_find 140 = .ok (.lload_n 3, 1) := dk_33 (dk_at dksX7_find_5 21 rfl rfl)
theorem dX7_find_141 : decode cX7_find 141 = .ok (.l2i, 1) := dk_136 (dk_at dksX7_find_5 22 rfl rfl)
theorem dX7_find_142 : decode cX7_find 142 = .ok (.invokevirtual 252, 3) := dk_182 0 252 (dk_at dksX7_find_6 0 rfl rfl)
theorem dX7_find_145 : decode cX7_find 145 = .ok (.ifCond .eq 7, 3) := dk_153 0 7 (dk_at dksX7_find_6 3 rfl rfl)
theorem dX7_find_148 : decode cX7_find 148 = .ok (.iconst 1, 1) := dk_4 (dk_at dksX7_find_6 6 rfl rfl)
theorem dX7_find_149 : decode cX7_find 149 = .ok (.goto 4, 3) := dk_167 0 4 (dk_at dksX7_find_6 7 rfl rfl)
theorem dX7_find_152 : decode cX7_find 152 = .ok (.iconst 0, 1) := dk_3 (dk_at dksX7_find_6 10 rfl rfl)
theorem dX7_find_153 : decode cX7_find 153 = .ok (.istore 9, 2) := dk_54 9 (dk_at dksX7_find_6 11 rfl rfl)
theorem dX7_find_155 : decode cX7_find 155 = .ok (.iload 8, 2) := dk_21 8 (dk_at dksX7_find_6 13 rfl rfl)
theorem dX7_find_157 : decode cX7_find 157 = .ok (.iload 9, 2) := dk_21 9 (dk_at dksX7_find_6 15 rfl rfl)
theorem dX7_find_159 : decode cX7_find 159 = .ok (.ifCond .eq 7, 3) := dk_153 0 7 (dk_at dksX7_find_6 17 rfl rfl)
theorem dX7_find_162 : decode cX7_find 162 = .ok (.iconst 0, 1) := dk_3 (dk_at dksX7_find_6 20 rfl rfl)
theorem dX7_find_163 : decode cX7_find 163 = .ok (.goto 4, 3) := dk_167 0 4 (dk_at dksX7_find_6 21 rfl rfl)
theorem dX7_find_166 : decode cX7_find 166 = .ok (.iconst 1, 1) := dk_4 (dk_at dksX7_find_7 0 rfl rfl)
theorem dX7_find_167 : decode cX7_find 167 = .ok (.iadd, 1) := dk_96 (dk_at dksX7_find_7 1 rfl rfl)
theorem dX7_find_168 : decode cX7_find 168 = .ok (.istore 8, 2) := dk_54 8 (dk_at dksX7_find_7 2 rfl rfl)
theorem dX7_find_170 : decode cX7_find 170 = .ok (.goto (-77), 3) := dk_167 255 179 (dk_at dksX7_find_7 4 rfl rfl)
theorem dX7_find_173 : decode cX7_find 173 = .ok (.iload 9, 2) := dk_21 9 (dk_at dksX7_find_7 7 rfl rfl)
theorem dX7_find_175 : decode cX7_find 175 = .ok (.ifCond .ne 14, 3) := dk_154 0 14 (dk_at dksX7_find_7 9 rfl rfl)
theorem dX7_find_178 : decode cX7_find 178 = .ok (.aload_n 0, 1) := dk_42 (dk_at dksX7_find_7 12 rfl rfl)
theorem dX7_find_179 : decode cX7_find 179 = .ok (.getfield 16, 3) := dk_180 0 16 (dk_at dksX7_find_7 13 rfl rfl)
theorem dX7_find_182 : decode cX7_find 182 = .ok (.iload 5, 2) := dk_21 5 (dk_at dksX7_find_7 16 rfl rfl)
theorem dX7_find_184 : decode cX7_find 184 = .ok (.iload 6, 2) := dk_21 6 (dk_at dksX7_find_7 18 rfl rfl)
theorem dX7_find_186 : decode cX7_find 186 = .ok (.iastore, 1) := dk_79 (dk_at dksX7_find_7 20 rfl rfl)
theorem dX7_find_187 : decode cX7_find 187 = .ok (.iconst (-1), 1) := dk_2 (dk_at dksX7_find_7 21 rfl rfl)
theorem dX7_find_188 : decode cX7_find 188 = .ok (.ireturn, 1) := dk_172 (dk_at dksX7_find_7 22 rfl rfl)
theorem dX7_find_189 : decode cX7_find 189 = .ok (.aload_n 0, 1) := dk_42 (dk_at dksX7_find_7 23 rfl rfl)
theorem dX7_find_190 : decode cX7_find 190 = .ok (.invokevirtual 250, 3) := dk_182 0 250 (dk_at dksX7_find_8 0 rfl rfl)
theorem dX7_find_193 : decode cX7_find 193 = .ok (.istore 10, 2) := dk_54 10 (dk_at dksX7_find_8 3 rfl rfl)
theorem dX7_find_195 : decode cX7_find 195 = .ok (.iload 8, 2) := dk_21 8 (dk_at dksX7_find_8 5 rfl rfl)
theorem dX7_find_197 : decode cX7_find 197 = .ok (.ireturn, 1) := dk_172 (dk_at dksX7_find_8 7 rfl rfl)
abbrev cX7_comes : ByteArray := prog_42_method_33_code
def yX7_comes : MethodName := ⟨RX7, "comes", "(II)Z"⟩
def dkwX7_comes_1 : List UInt8 := [182, 0, 190, 42, 180, 0, 52, 28, 182, 0, 228, 155, 0, 7, 4, 167, 0, 4, 3, 172]
abbrev dktX7_comes_1 : List UInt8 := dkwX7_comes_1 ++ []
def dkwX7_comes_0 : List UInt8 := [42, 4, 2, 2, 182, 0, 166, 42, 180, 0, 41, 182, 0, 170, 62, 42, 3, 27, 42, 180, 0, 52]
abbrev dktX7_comes_0 : List UInt8 := dkwX7_comes_0 ++ dktX7_comes_1
theorem dksX7_comes_0 : cX7_comes.data.toList.drop 0 = dktX7_comes_0 := by decide +kernel
theorem dksX7_comes_1 : cX7_comes.data.toList.drop 22 = dktX7_comes_1 := dk_seg dksX7_comes_0 22 rfl rfl
theorem dX7_comes_0 : decode cX7_comes 0 = .ok (.aload_n 0, 1) := dk_42 (dk_at dksX7_comes_0 0 rfl rfl)
theorem dX7_comes_1 : decode cX7_comes 1 = .ok (.iconst 1, 1) := dk_4 (dk_at dksX7_comes_0 1 rfl rfl)
theorem dX7_comes_2 : decode cX7_comes 2 = .ok (.iconst (-1), 1) := dk_2 (dk_at dksX7_comes_0 2 rfl rfl)
theorem dX7_comes_3 : decode cX7_comes 3 = .ok (.iconst (-1), 1) := dk_2 (dk_at dksX7_comes_0 3 rfl rfl)
theorem dX7_comes_4 : decode cX7_comes 4 = .ok (.invokevirtual 166, 3) := dk_182 0 166 (dk_at dksX7_comes_0 4 rfl rfl)
theorem dX7_comes_7 : decode cX7_comes 7 = .ok (.aload_n 0, 1) := dk_42 (dk_at dksX7_comes_0 7 rfl rfl)
theorem dX7_comes_8 : decode cX7_comes 8 = .ok (.getfield 41, 3) := dk_180 0 41 (dk_at dksX7_comes_0 8 rfl rfl)
theorem dX7_comes_11 : decode cX7_comes 11 = .ok (.invokevirtual 170, 3) := dk_182 0 170 (dk_at dksX7_comes_0 11 rfl rfl)
theorem dX7_comes_14 : decode cX7_comes 14 = .ok (.istore_n 3, 1) := dk_62 (dk_at dksX7_comes_0 14 rfl rfl)
theorem dX7_comes_15 : decode cX7_comes 15 = .ok (.aload_n 0, 1) := dk_42 (dk_at dksX7_comes_0 15 rfl rfl)
theorem dX7_comes_16 : decode cX7_comes 16 = .ok (.iconst 0, 1) := dk_3 (dk_at dksX7_comes_0 16 rfl rfl)
theorem dX7_comes_17 : decode cX7_comes 17 = .ok (.iload_n 1, 1) := dk_27 (dk_at dksX7_comes_0 17 rfl rfl)
theorem dX7_comes_18 : decode cX7_comes 18 = .ok (.aload_n 0, 1) := dk_42 (dk_at dksX7_comes_0 18 rfl rfl)
theorem dX7_comes_19 : decode cX7_comes 19 = .ok (.getfield 52, 3) := dk_180 0 52 (dk_at dksX7_comes_0 19 rfl rfl)
theorem dX7_comes_22 : decode cX7_comes 22 = .ok (.invokevirtual 190, 3) := dk_182 0 190 (dk_at dksX7_comes_1 0 rfl rfl)
theorem dX7_comes_25 : decode cX7_comes 25 = .ok (.aload_n 0, 1) := dk_42 (dk_at dksX7_comes_1 3 rfl rfl)
theorem dX7_comes_26 : decode cX7_comes 26 = .ok (.getfield 52, 3) := dk_180 0 52 (dk_at dksX7_comes_1 4 rfl rfl)
theorem dX7_comes_29 : decode cX7_comes 29 = .ok (.iload_n 2, 1) := dk_28 (dk_at dksX7_comes_1 7 rfl rfl)
theorem dX7_comes_30 : decode cX7_comes 30 = .ok (.invokevirtual 228, 3) := dk_182 0 228 (dk_at dksX7_comes_1 8 rfl rfl)
theorem dX7_comes_33 : decode cX7_comes 33 = .ok (.ifCond .lt 7, 3) := dk_155 0 7 (dk_at dksX7_comes_1 11 rfl rfl)
theorem dX7_comes_36 : decode cX7_comes 36 = .ok (.iconst 1, 1) := dk_4 (dk_at dksX7_comes_1 14 rfl rfl)
theorem dX7_comes_37 : decode cX7_comes 37 = .ok (.goto 4, 3) := dk_167 0 4 (dk_at dksX7_comes_1 15 rfl rfl)
theorem dX7_comes_40 : decode cX7_comes 40 = .ok (.iconst 0, 1) := dk_3 (dk_at dksX7_comes_1 18 rfl rfl)
theorem dX7_comes_41 : decode cX7_comes 41 = .ok (.ireturn, 1) := dk_172 (dk_at dksX7_comes_1 19 rfl rfl)
abbrev cX7_kept : ByteArray := prog_42_method_34_code
def yX7_kept : MethodName := ⟨RX7, "kept", "()Z"⟩
theorem dX7_kept_0 : decode cX7_kept 0 = .ok (.aload_n 0, 1) := by decide +kernel
theorem dX7_kept_1 : decode cX7_kept 1 = .ok (.getfield 97, 3) := by decide +kernel
theorem dX7_kept_4 : decode cX7_kept 4 = .ok (.ireturn, 1) := by decide +kernel
theorem q404 : (Jvm.Cond.initialized "WasteHouse$ShareSolve") ∈ lw_all := lw_g (lw_at lw_m1 12 rfl) rfl
theorem q705 : (Jvm.Cond.instantiable "WasteHouse$ShareSolve" (27 : Nat)) ∈ lw_all := lw_g (lw_at lw_m2 73 rfl) rfl
theorem q707 : (Jvm.Cond.instanceMethod ({ cls := "WasteHouse$ShareSolve", name := "<init>", desc := "(I)V" } : Jvm.MethodName)) ∈ lw_all := lw_g (lw_at lw_m2 75 rfl) rfl
theorem q708 : (Jvm.Cond.code ({ cls := "WasteHouse$ShareSolve", name := "<init>", desc := "(I)V" } : Jvm.MethodName) prog_42_method_1_code (3 : Nat) (Option.none : Option Jvm.ClassFile.FieldType)) ∈ lw_all := lw_g (lw_at lw_m2 76 rfl) rfl
theorem q709 : (Jvm.Cond.methodLink "WasteHouse$ShareSolve" (1 : Nat) ({ cls := "java/lang/Object", name := "<init>", desc := "()V" } : Jvm.MethodName)) ∈ lw_all := lw_g (lw_at lw_m2 77 rfl) rfl
theorem q710 : (Jvm.Cond.classLink "WasteHouse$ShareSolve" (38 : Nat) "WasteHouse$ShareSolve$Square") ∈ lw_all := lw_g (lw_at lw_m2 78 rfl) rfl
theorem q712 : (Jvm.Cond.methodLink "WasteHouse$ShareSolve" (40 : Nat) ({ cls := "WasteHouse$ShareSolve$Square", name := "<init>", desc := "()V" } : Jvm.MethodName)) ∈ lw_all := lw_g (lw_at lw_m2 80 rfl) rfl
theorem q736 : (Jvm.Cond.fieldLink "WasteHouse$ShareSolve" (197 : Nat) "WasteHouse$ShareSolve$Whole" "negative" "Z") ∈ lw_all := lw_g (lw_at lw_m2 104 rfl) rfl
theorem q783 : (Jvm.Cond.classLink "WasteHouse$ShareSolve" (45 : Nat) "WasteHouse$ShareSolve$Amount") ∈ lw_all := lw_g (lw_at lw_m2 151 rfl) rfl
theorem q786 : (Jvm.Cond.methodLink "WasteHouse$ShareSolve" (51 : Nat) ({ cls := "WasteHouse$ShareSolve$Amount", name := "<init>", desc := "()V" } : Jvm.MethodName)) ∈ lw_all := lw_g (lw_at lw_m2 154 rfl) rfl
theorem q805 : (Jvm.Cond.fieldLink "WasteHouse$ShareSolve" (215 : Nat) "WasteHouse$ShareSolve$Amount" "above" "LWasteHouse$ShareSolve$Whole;") ∈ lw_all := lw_g (lw_at lw_m2 173 rfl) rfl
theorem q807 : (Jvm.Cond.fieldLink "WasteHouse$ShareSolve" (218 : Nat) "WasteHouse$ShareSolve$Amount" "below" "LWasteHouse$ShareSolve$Whole;") ∈ lw_all := lw_g (lw_at lw_m2 175 rfl) rfl
theorem q827 : (Jvm.Cond.classLink "WasteHouse$ShareSolve" (56 : Nat) "WasteHouse$ShareSolve$Whole") ∈ lw_all := lw_g (lw_at lw_m2 195 rfl) rfl
theorem q828 : (Jvm.Cond.methodLinkNest "WasteHouse$ShareSolve" (58 : Nat) ({ cls := "WasteHouse$ShareSolve$Whole", name := "<init>", desc := "()V" } : Jvm.MethodName) "WasteHouse") ∈ lw_tbl := lw_at lw_m2 196 rfl
theorem q829 : (Jvm.Cond.classLink "WasteHouse$ShareSolve" (81 : Nat) "WasteHouse$ShareSolve$Reckoner") ∈ lw_all := lw_g (lw_at lw_m2 197 rfl) rfl
theorem q830 : (Jvm.Cond.methodLinkNest "WasteHouse$ShareSolve" (83 : Nat) ({ cls := "WasteHouse$ShareSolve$Reckoner", name := "<init>", desc := "()V" } : Jvm.MethodName) "WasteHouse") ∈ lw_tbl := lw_at lw_m2 198 rfl
theorem q831 : (Jvm.Cond.fieldLink "WasteHouse$ShareSolve" (88 : Nat) "WasteHouse$ShareSolve" "kinds" "I") ∈ lw_all := lw_g (lw_at lw_m2 199 rfl) rfl
theorem q833 : (Jvm.Cond.fieldLink "WasteHouse$ShareSolve" (92 : Nat) "WasteHouse$ShareSolve" "machines" "I") ∈ lw_all := lw_g (lw_at lw_m2 201 rfl) rfl
theorem q835 : (Jvm.Cond.fieldLink "WasteHouse$ShareSolve" (101 : Nat) "WasteHouse$ShareSolve" "ports" "I") ∈ lw_all := lw_g (lw_at lw_m2 203 rfl) rfl
theorem q836 : (Jvm.Cond.fieldLink "WasteHouse$ShareSolve" (7 : Nat) "WasteHouse$ShareSolve" "outs" "[I") ∈ lw_all := lw_g (lw_at lw_m2 204 rfl) rfl
theorem q837 : (Jvm.Cond.fieldLink "WasteHouse$ShareSolve" (13 : Nat) "WasteHouse$ShareSolve" "joins" "[I") ∈ lw_all := lw_g (lw_at lw_m2 205 rfl) rfl
theorem q838 : (Jvm.Cond.fieldLink "WasteHouse$ShareSolve" (16 : Nat) "WasteHouse$ShareSolve" "shares" "[I") ∈ lw_all := lw_g (lw_at lw_m2 206 rfl) rfl
theorem q839 : (Jvm.Cond.fieldLink "WasteHouse$ShareSolve" (19 : Nat) "WasteHouse$ShareSolve" "becomes" "[I") ∈ lw_all := lw_g (lw_at lw_m2 207 rfl) rfl
theorem q840 : (Jvm.Cond.fieldLink "WasteHouse$ShareSolve" (22 : Nat) "WasteHouse$ShareSolve" "crushed" "[I") ∈ lw_all := lw_g (lw_at lw_m2 208 rfl) rfl
theorem q841 : (Jvm.Cond.fieldLink "WasteHouse$ShareSolve" (25 : Nat) "WasteHouse$ShareSolve" "feeds" "[I") ∈ lw_all := lw_g (lw_at lw_m2 209 rfl) rfl
theorem q842 : (Jvm.Cond.fieldLink "WasteHouse$ShareSolve" (28 : Nat) "WasteHouse$ShareSolve" "hasSpan" "[Z") ∈ lw_all := lw_g (lw_at lw_m2 210 rfl) rfl
theorem q843 : (Jvm.Cond.fieldLink "WasteHouse$ShareSolve" (32 : Nat) "WasteHouse$ShareSolve" "lows" "[I") ∈ lw_all := lw_g (lw_at lw_m2 211 rfl) rfl
theorem q844 : (Jvm.Cond.fieldLink "WasteHouse$ShareSolve" (35 : Nat) "WasteHouse$ShareSolve" "highs" "[I") ∈ lw_all := lw_g (lw_at lw_m2 212 rfl) rfl
theorem q845 : (Jvm.Cond.fieldLink "WasteHouse$ShareSolve" (41 : Nat) "WasteHouse$ShareSolve" "square" "LWasteHouse$ShareSolve$Square;") ∈ lw_all := lw_g (lw_at lw_m2 213 rfl) rfl
theorem q846 : (Jvm.Cond.fieldLink "WasteHouse$ShareSolve" (47 : Nat) "WasteHouse$ShareSolve" "amounts" "[LWasteHouse$ShareSolve$Amount;") ∈ lw_all := lw_g (lw_at lw_m2 214 rfl) rfl
theorem q847 : (Jvm.Cond.fieldLink "WasteHouse$ShareSolve" (52 : Nat) "WasteHouse$ShareSolve" "amount" "LWasteHouse$ShareSolve$Amount;") ∈ lw_all := lw_g (lw_at lw_m2 215 rfl) rfl
theorem q848 : (Jvm.Cond.fieldLink "WasteHouse$ShareSolve" (59 : Nat) "WasteHouse$ShareSolve" "one" "LWasteHouse$ShareSolve$Whole;") ∈ lw_all := lw_g (lw_at lw_m2 216 rfl) rfl
theorem q849 : (Jvm.Cond.fieldLink "WasteHouse$ShareSolve" (63 : Nat) "WasteHouse$ShareSolve" "two" "LWasteHouse$ShareSolve$Whole;") ∈ lw_all := lw_g (lw_at lw_m2 217 rfl) rfl
theorem q850 : (Jvm.Cond.fieldLink "WasteHouse$ShareSolve" (66 : Nat) "WasteHouse$ShareSolve" "sum" "LWasteHouse$ShareSolve$Whole;") ∈ lw_all := lw_g (lw_at lw_m2 218 rfl) rfl
theorem q851 : (Jvm.Cond.fieldLink "WasteHouse$ShareSolve" (163 : Nat) "WasteHouse$ShareSolve" "isKnown" "Z") ∈ lw_all := lw_g (lw_at lw_m2 219 rfl) rfl
theorem q852 : (Jvm.Cond.fieldLink "WasteHouse$ShareSolve" (97 : Nat) "WasteHouse$ShareSolve" "isKept" "Z") ∈ lw_all := lw_g (lw_at lw_m2 220 rfl) rfl
theorem q853 : (Jvm.Cond.fieldLink "WasteHouse$ShareSolve" (174 : Nat) "WasteHouse$ShareSolve" "knownMachines" "I") ∈ lw_all := lw_g (lw_at lw_m2 221 rfl) rfl
theorem q854 : (Jvm.Cond.fieldLink "WasteHouse$ShareSolve" (177 : Nat) "WasteHouse$ShareSolve" "knownPorts" "I") ∈ lw_all := lw_g (lw_at lw_m2 222 rfl) rfl
theorem q855 : (Jvm.Cond.fieldLink "WasteHouse$ShareSolve" (69 : Nat) "WasteHouse$ShareSolve" "factor" "LWasteHouse$ShareSolve$Whole;") ∈ lw_all := lw_g (lw_at lw_m2 223 rfl) rfl
theorem q856 : (Jvm.Cond.fieldLink "WasteHouse$ShareSolve" (72 : Nat) "WasteHouse$ShareSolve" "scaled" "LWasteHouse$ShareSolve$Whole;") ∈ lw_all := lw_g (lw_at lw_m2 224 rfl) rfl
theorem q857 : (Jvm.Cond.fieldLink "WasteHouse$ShareSolve" (75 : Nat) "WasteHouse$ShareSolve" "first" "LWasteHouse$ShareSolve$Amount;") ∈ lw_all := lw_g (lw_at lw_m2 225 rfl) rfl
theorem q858 : (Jvm.Cond.fieldLink "WasteHouse$ShareSolve" (78 : Nat) "WasteHouse$ShareSolve" "last" "LWasteHouse$ShareSolve$Amount;") ∈ lw_all := lw_g (lw_at lw_m2 226 rfl) rfl
theorem q859 : (Jvm.Cond.fieldLink "WasteHouse$ShareSolve" (84 : Nat) "WasteHouse$ShareSolve" "reckoner" "LWasteHouse$ShareSolve$Reckoner;") ∈ lw_all := lw_g (lw_at lw_m2 227 rfl) rfl
theorem q860 : (Jvm.Cond.laysFinal "WasteHouse$ShareSolve" "WasteHouse$ShareSolve" "kinds" "I") ∈ lw_all := lw_g (lw_at lw_m2 228 rfl) rfl
theorem q861 : (Jvm.Cond.soleField "WasteHouse$ShareSolve" "kinds") ∈ lw_all := lw_g (lw_at lw_m2 229 rfl) rfl
theorem q862 : (Jvm.Cond.lays "WasteHouse$ShareSolve" "WasteHouse$ShareSolve" "machines" "I") ∈ lw_all := lw_g (lw_at lw_m2 230 rfl) rfl
theorem q863 : (Jvm.Cond.soleField "WasteHouse$ShareSolve" "machines") ∈ lw_all := lw_g (lw_at lw_m2 231 rfl) rfl
theorem q864 : (Jvm.Cond.lays "WasteHouse$ShareSolve" "WasteHouse$ShareSolve" "ports" "I") ∈ lw_all := lw_g (lw_at lw_m2 232 rfl) rfl
theorem q865 : (Jvm.Cond.soleField "WasteHouse$ShareSolve" "ports") ∈ lw_all := lw_g (lw_at lw_m2 233 rfl) rfl
theorem q866 : (Jvm.Cond.laysFinal "WasteHouse$ShareSolve" "WasteHouse$ShareSolve" "outs" "[I") ∈ lw_all := lw_g (lw_at lw_m2 234 rfl) rfl
theorem q867 : (Jvm.Cond.soleField "WasteHouse$ShareSolve" "outs") ∈ lw_all := lw_g (lw_at lw_m2 235 rfl) rfl
theorem q868 : (Jvm.Cond.laysFinal "WasteHouse$ShareSolve" "WasteHouse$ShareSolve" "joins" "[I") ∈ lw_all := lw_g (lw_at lw_m2 236 rfl) rfl
theorem q869 : (Jvm.Cond.soleField "WasteHouse$ShareSolve" "joins") ∈ lw_all := lw_g (lw_at lw_m2 237 rfl) rfl
theorem q870 : (Jvm.Cond.laysFinal "WasteHouse$ShareSolve" "WasteHouse$ShareSolve" "shares" "[I") ∈ lw_all := lw_g (lw_at lw_m2 238 rfl) rfl
theorem q871 : (Jvm.Cond.soleField "WasteHouse$ShareSolve" "shares") ∈ lw_all := lw_g (lw_at lw_m2 239 rfl) rfl
theorem q872 : (Jvm.Cond.laysFinal "WasteHouse$ShareSolve" "WasteHouse$ShareSolve" "becomes" "[I") ∈ lw_all := lw_g (lw_at lw_m3 0 rfl) rfl
theorem q873 : (Jvm.Cond.soleField "WasteHouse$ShareSolve" "becomes") ∈ lw_all := lw_g (lw_at lw_m3 1 rfl) rfl
theorem q874 : (Jvm.Cond.laysFinal "WasteHouse$ShareSolve" "WasteHouse$ShareSolve" "crushed" "[I") ∈ lw_all := lw_g (lw_at lw_m3 2 rfl) rfl
theorem q875 : (Jvm.Cond.soleField "WasteHouse$ShareSolve" "crushed") ∈ lw_all := lw_g (lw_at lw_m3 3 rfl) rfl
theorem q876 : (Jvm.Cond.laysFinal "WasteHouse$ShareSolve" "WasteHouse$ShareSolve" "feeds" "[I") ∈ lw_all := lw_g (lw_at lw_m3 4 rfl) rfl
theorem q877 : (Jvm.Cond.soleField "WasteHouse$ShareSolve" "feeds") ∈ lw_all := lw_g (lw_at lw_m3 5 rfl) rfl
theorem q878 : (Jvm.Cond.laysFinal "WasteHouse$ShareSolve" "WasteHouse$ShareSolve" "hasSpan" "[Z") ∈ lw_all := lw_g (lw_at lw_m3 6 rfl) rfl
theorem q879 : (Jvm.Cond.soleField "WasteHouse$ShareSolve" "hasSpan") ∈ lw_all := lw_g (lw_at lw_m3 7 rfl) rfl
theorem q880 : (Jvm.Cond.laysFinal "WasteHouse$ShareSolve" "WasteHouse$ShareSolve" "lows" "[I") ∈ lw_all := lw_g (lw_at lw_m3 8 rfl) rfl
theorem q881 : (Jvm.Cond.soleField "WasteHouse$ShareSolve" "lows") ∈ lw_all := lw_g (lw_at lw_m3 9 rfl) rfl
theorem q882 : (Jvm.Cond.laysFinal "WasteHouse$ShareSolve" "WasteHouse$ShareSolve" "highs" "[I") ∈ lw_all := lw_g (lw_at lw_m3 10 rfl) rfl
theorem q883 : (Jvm.Cond.soleField "WasteHouse$ShareSolve" "highs") ∈ lw_all := lw_g (lw_at lw_m3 11 rfl) rfl
theorem q884 : (Jvm.Cond.laysFinal "WasteHouse$ShareSolve" "WasteHouse$ShareSolve" "square" "LWasteHouse$ShareSolve$Square;") ∈ lw_all := lw_g (lw_at lw_m3 12 rfl) rfl
theorem q885 : (Jvm.Cond.soleField "WasteHouse$ShareSolve" "square") ∈ lw_all := lw_g (lw_at lw_m3 13 rfl) rfl
theorem q886 : (Jvm.Cond.laysFinal "WasteHouse$ShareSolve" "WasteHouse$ShareSolve" "amounts" "[LWasteHouse$ShareSolve$Amount;") ∈ lw_all := lw_g (lw_at lw_m3 14 rfl) rfl
theorem q887 : (Jvm.Cond.soleField "WasteHouse$ShareSolve" "amounts") ∈ lw_all := lw_g (lw_at lw_m3 15 rfl) rfl
theorem q888 : (Jvm.Cond.laysFinal "WasteHouse$ShareSolve" "WasteHouse$ShareSolve" "amount" "LWasteHouse$ShareSolve$Amount;") ∈ lw_all := lw_g (lw_at lw_m3 16 rfl) rfl
theorem q889 : (Jvm.Cond.soleField "WasteHouse$ShareSolve" "amount") ∈ lw_all := lw_g (lw_at lw_m3 17 rfl) rfl
theorem q890 : (Jvm.Cond.laysFinal "WasteHouse$ShareSolve" "WasteHouse$ShareSolve" "one" "LWasteHouse$ShareSolve$Whole;") ∈ lw_all := lw_g (lw_at lw_m3 18 rfl) rfl
theorem q891 : (Jvm.Cond.soleField "WasteHouse$ShareSolve" "one") ∈ lw_all := lw_g (lw_at lw_m3 19 rfl) rfl
theorem q892 : (Jvm.Cond.laysFinal "WasteHouse$ShareSolve" "WasteHouse$ShareSolve" "two" "LWasteHouse$ShareSolve$Whole;") ∈ lw_all := lw_g (lw_at lw_m3 20 rfl) rfl
theorem q893 : (Jvm.Cond.soleField "WasteHouse$ShareSolve" "two") ∈ lw_all := lw_g (lw_at lw_m3 21 rfl) rfl
theorem q894 : (Jvm.Cond.laysFinal "WasteHouse$ShareSolve" "WasteHouse$ShareSolve" "sum" "LWasteHouse$ShareSolve$Whole;") ∈ lw_all := lw_g (lw_at lw_m3 22 rfl) rfl
theorem q895 : (Jvm.Cond.soleField "WasteHouse$ShareSolve" "sum") ∈ lw_all := lw_g (lw_at lw_m3 23 rfl) rfl
theorem q896 : (Jvm.Cond.lays "WasteHouse$ShareSolve" "WasteHouse$ShareSolve" "isKnown" "Z") ∈ lw_all := lw_g (lw_at lw_m3 24 rfl) rfl
theorem q897 : (Jvm.Cond.soleField "WasteHouse$ShareSolve" "isKnown") ∈ lw_all := lw_g (lw_at lw_m3 25 rfl) rfl
theorem q898 : (Jvm.Cond.lays "WasteHouse$ShareSolve" "WasteHouse$ShareSolve" "isKept" "Z") ∈ lw_all := lw_g (lw_at lw_m3 26 rfl) rfl
theorem q899 : (Jvm.Cond.soleField "WasteHouse$ShareSolve" "isKept") ∈ lw_all := lw_g (lw_at lw_m3 27 rfl) rfl
theorem q900 : (Jvm.Cond.lays "WasteHouse$ShareSolve" "WasteHouse$ShareSolve" "knownMachines" "I") ∈ lw_all := lw_g (lw_at lw_m3 28 rfl) rfl
theorem q901 : (Jvm.Cond.soleField "WasteHouse$ShareSolve" "knownMachines") ∈ lw_all := lw_g (lw_at lw_m3 29 rfl) rfl
theorem q902 : (Jvm.Cond.lays "WasteHouse$ShareSolve" "WasteHouse$ShareSolve" "knownPorts" "I") ∈ lw_all := lw_g (lw_at lw_m3 30 rfl) rfl
theorem q903 : (Jvm.Cond.soleField "WasteHouse$ShareSolve" "knownPorts") ∈ lw_all := lw_g (lw_at lw_m3 31 rfl) rfl
theorem q904 : (Jvm.Cond.laysFinal "WasteHouse$ShareSolve" "WasteHouse$ShareSolve" "factor" "LWasteHouse$ShareSolve$Whole;") ∈ lw_all := lw_g (lw_at lw_m3 32 rfl) rfl
theorem q905 : (Jvm.Cond.soleField "WasteHouse$ShareSolve" "factor") ∈ lw_all := lw_g (lw_at lw_m3 33 rfl) rfl
theorem q906 : (Jvm.Cond.laysFinal "WasteHouse$ShareSolve" "WasteHouse$ShareSolve" "scaled" "LWasteHouse$ShareSolve$Whole;") ∈ lw_all := lw_g (lw_at lw_m3 34 rfl) rfl
theorem q907 : (Jvm.Cond.soleField "WasteHouse$ShareSolve" "scaled") ∈ lw_all := lw_g (lw_at lw_m3 35 rfl) rfl
theorem q908 : (Jvm.Cond.laysFinal "WasteHouse$ShareSolve" "WasteHouse$ShareSolve" "first" "LWasteHouse$ShareSolve$Amount;") ∈ lw_all := lw_g (lw_at lw_m3 36 rfl) rfl
theorem q909 : (Jvm.Cond.soleField "WasteHouse$ShareSolve" "first") ∈ lw_all := lw_g (lw_at lw_m3 37 rfl) rfl
theorem q910 : (Jvm.Cond.laysFinal "WasteHouse$ShareSolve" "WasteHouse$ShareSolve" "last" "LWasteHouse$ShareSolve$Amount;") ∈ lw_all := lw_g (lw_at lw_m3 38 rfl) rfl
theorem q911 : (Jvm.Cond.soleField "WasteHouse$ShareSolve" "last") ∈ lw_all := lw_g (lw_at lw_m3 39 rfl) rfl
theorem q912 : (Jvm.Cond.laysFinal "WasteHouse$ShareSolve" "WasteHouse$ShareSolve" "reckoner" "LWasteHouse$ShareSolve$Reckoner;") ∈ lw_all := lw_g (lw_at lw_m3 40 rfl) rfl
theorem q913 : (Jvm.Cond.soleField "WasteHouse$ShareSolve" "reckoner") ∈ lw_all := lw_g (lw_at lw_m3 41 rfl) rfl
theorem q914 : (Jvm.Cond.superclass "WasteHouse$ShareSolve" "java/lang/Object") ∈ lw_all := lw_g (lw_at lw_m3 42 rfl) rfl
theorem q2011 : (Jvm.Cond.selects "WasteHouse$ShareSolve" ({ cls := "java/lang/Object", name := "getClass", desc := "()Ljava/lang/Class;" } : Jvm.MethodName) ({ cls := "java/lang/Object", name := "getClass", desc := "()Ljava/lang/Class;" } : Jvm.MethodName)) ∈ lw_all := lw_g (lw_at lw_m7 179 rfl) rfl
theorem q3121 : (Jvm.Cond.selects "WasteHouse$ShareSolve" ({ cls := "java/lang/Object", name := "equals", desc := "(Ljava/lang/Object;)Z" } : Jvm.MethodName) ({ cls := "java/lang/Object", name := "equals", desc := "(Ljava/lang/Object;)Z" } : Jvm.MethodName)) ∈ lw_all := lw_g (lw_at lw_m12 89 rfl) rfl
theorem q3639 : (Jvm.Cond.selects "WasteHouse$ShareSolve" ({ cls := "java/lang/Object", name := "hashCode", desc := "()I" } : Jvm.MethodName) ({ cls := "java/lang/Object", name := "hashCode", desc := "()I" } : Jvm.MethodName)) ∈ lw_all := lw_g (lw_at lw_m14 127 rfl) rfl
theorem q5224 : (Jvm.Cond.instanceMethod ({ cls := "WasteHouse$ShareSolve", name := "feed", desc := "(IIJ)Z" } : Jvm.MethodName)) ∈ lw_all := lw_g (lw_at lw_m21 32 rfl) rfl
theorem q5225 : (Jvm.Cond.selects "WasteHouse$ShareSolve" ({ cls := "WasteHouse$ShareSolve", name := "feed", desc := "(IIJ)Z" } : Jvm.MethodName) ({ cls := "WasteHouse$ShareSolve", name := "feed", desc := "(IIJ)Z" } : Jvm.MethodName)) ∈ lw_all := lw_g (lw_at lw_m21 33 rfl) rfl
theorem q5226 : (Jvm.Cond.code ({ cls := "WasteHouse$ShareSolve", name := "feed", desc := "(IIJ)Z" } : Jvm.MethodName) prog_42_method_11_code (5 : Nat) (Option.some Jvm.ClassFile.FieldType.boolean)) ∈ lw_all := lw_g (lw_at lw_m21 34 rfl) rfl
theorem q5227 : (Jvm.Cond.methodLink "WasteHouse$ShareSolve" (104 : Nat) ({ cls := "WasteHouse$ShareSolve", name := "isMachine", desc := "(I)Z" } : Jvm.MethodName)) ∈ lw_all := lw_g (lw_at lw_m21 35 rfl) rfl
theorem q5228 : (Jvm.Cond.privateMethod ({ cls := "WasteHouse$ShareSolve", name := "isMachine", desc := "(I)Z" } : Jvm.MethodName)) ∈ lw_tbl := lw_at lw_m21 36 rfl
theorem q5229 : (Jvm.Cond.instanceMethod ({ cls := "WasteHouse$ShareSolve", name := "isMachine", desc := "(I)Z" } : Jvm.MethodName)) ∈ lw_all := lw_g (lw_at lw_m21 37 rfl) rfl
theorem q5230 : (Jvm.Cond.code ({ cls := "WasteHouse$ShareSolve", name := "isMachine", desc := "(I)Z" } : Jvm.MethodName) prog_42_method_2_code (2 : Nat) (Option.some Jvm.ClassFile.FieldType.boolean)) ∈ lw_all := lw_g (lw_at lw_m21 38 rfl) rfl
theorem q5231 : (Jvm.Cond.methodLink "WasteHouse$ShareSolve" (108 : Nat) ({ cls := "WasteHouse$ShareSolve", name := "isKind", desc := "(I)Z" } : Jvm.MethodName)) ∈ lw_all := lw_g (lw_at lw_m21 39 rfl) rfl
theorem q5232 : (Jvm.Cond.privateMethod ({ cls := "WasteHouse$ShareSolve", name := "isKind", desc := "(I)Z" } : Jvm.MethodName)) ∈ lw_tbl := lw_at lw_m21 40 rfl
theorem q5233 : (Jvm.Cond.instanceMethod ({ cls := "WasteHouse$ShareSolve", name := "isKind", desc := "(I)Z" } : Jvm.MethodName)) ∈ lw_all := lw_g (lw_at lw_m21 41 rfl) rfl
theorem q5234 : (Jvm.Cond.code ({ cls := "WasteHouse$ShareSolve", name := "isKind", desc := "(I)Z" } : Jvm.MethodName) prog_42_method_3_code (2 : Nat) (Option.some Jvm.ClassFile.FieldType.boolean)) ∈ lw_all := lw_g (lw_at lw_m21 42 rfl) rfl
theorem q5235 : (Jvm.Cond.constantLong "WasteHouse$ShareSolve" (121 : Nat) (1000000 : Int64)) ∈ lw_all := lw_g (lw_at lw_m21 43 rfl) rfl
theorem q5241 : (Jvm.Cond.instanceMethod ({ cls := "WasteHouse$ShareSolve", name := "solve", desc := "()I" } : Jvm.MethodName)) ∈ lw_all := lw_g (lw_at lw_m21 49 rfl) rfl
theorem q5242 : (Jvm.Cond.selects "WasteHouse$ShareSolve" ({ cls := "WasteHouse$ShareSolve", name := "solve", desc := "()I" } : Jvm.MethodName) ({ cls := "WasteHouse$ShareSolve", name := "solve", desc := "()I" } : Jvm.MethodName)) ∈ lw_all := lw_g (lw_at lw_m21 50 rfl) rfl
theorem q5243 : (Jvm.Cond.code ({ cls := "WasteHouse$ShareSolve", name := "solve", desc := "()I" } : Jvm.MethodName) prog_42_method_19_code (5 : Nat) (Option.some Jvm.ClassFile.FieldType.int)) ∈ lw_all := lw_g (lw_at lw_m21 51 rfl) rfl
theorem q5244 : (Jvm.Cond.methodLink "WasteHouse$ShareSolve" (159 : Nat) ({ cls := "WasteHouse$ShareSolve", name := "loop", desc := "()I" } : Jvm.MethodName)) ∈ lw_all := lw_g (lw_at lw_m21 52 rfl) rfl
theorem q5245 : (Jvm.Cond.privateMethod ({ cls := "WasteHouse$ShareSolve", name := "loop", desc := "()I" } : Jvm.MethodName)) ∈ lw_tbl := lw_at lw_m21 53 rfl
theorem q5246 : (Jvm.Cond.instanceMethod ({ cls := "WasteHouse$ShareSolve", name := "loop", desc := "()I" } : Jvm.MethodName)) ∈ lw_all := lw_g (lw_at lw_m21 54 rfl) rfl
theorem q5247 : (Jvm.Cond.code ({ cls := "WasteHouse$ShareSolve", name := "loop", desc := "()I" } : Jvm.MethodName) prog_42_method_14_code (6 : Nat) (Option.some Jvm.ClassFile.FieldType.int)) ∈ lw_all := lw_g (lw_at lw_m21 55 rfl) rfl
theorem q5248 : (Jvm.Cond.methodLink "WasteHouse$ShareSolve" (125 : Nat) ({ cls := "WasteHouse$ShareSolve", name := "goesOut", desc := "(III)Z" } : Jvm.MethodName)) ∈ lw_all := lw_g (lw_at lw_m21 56 rfl) rfl
theorem q5249 : (Jvm.Cond.privateMethod ({ cls := "WasteHouse$ShareSolve", name := "goesOut", desc := "(III)Z" } : Jvm.MethodName)) ∈ lw_tbl := lw_at lw_m21 57 rfl
theorem q5250 : (Jvm.Cond.instanceMethod ({ cls := "WasteHouse$ShareSolve", name := "goesOut", desc := "(III)Z" } : Jvm.MethodName)) ∈ lw_all := lw_g (lw_at lw_m21 58 rfl) rfl
theorem q5251 : (Jvm.Cond.code ({ cls := "WasteHouse$ShareSolve", name := "goesOut", desc := "(III)Z" } : Jvm.MethodName) prog_42_method_15_code (8 : Nat) (Option.some Jvm.ClassFile.FieldType.boolean)) ∈ lw_all := lw_g (lw_at lw_m21 59 rfl) rfl
theorem q5252 : (Jvm.Cond.methodLink "WasteHouse$ShareSolve" (129 : Nat) ({ cls := "WasteHouse$ShareSolve", name := "turned", desc := "(III)I" } : Jvm.MethodName)) ∈ lw_all := lw_g (lw_at lw_m21 60 rfl) rfl
theorem q5253 : (Jvm.Cond.privateMethod ({ cls := "WasteHouse$ShareSolve", name := "turned", desc := "(III)I" } : Jvm.MethodName)) ∈ lw_tbl := lw_at lw_m21 61 rfl
theorem q5254 : (Jvm.Cond.instanceMethod ({ cls := "WasteHouse$ShareSolve", name := "turned", desc := "(III)I" } : Jvm.MethodName)) ∈ lw_all := lw_g (lw_at lw_m21 62 rfl) rfl
theorem q5255 : (Jvm.Cond.code ({ cls := "WasteHouse$ShareSolve", name := "turned", desc := "(III)I" } : Jvm.MethodName) prog_42_method_13_code (6 : Nat) (Option.some Jvm.ClassFile.FieldType.int)) ∈ lw_all := lw_g (lw_at lw_m21 63 rfl) rfl
theorem q5256 : (Jvm.Cond.methodLink "WasteHouse$ShareSolve" (117 : Nat) ({ cls := "WasteHouse$ShareSolve", name := "shareOf", desc := "(III)I" } : Jvm.MethodName)) ∈ lw_all := lw_g (lw_at lw_m21 64 rfl) rfl
theorem q5257 : (Jvm.Cond.privateMethod ({ cls := "WasteHouse$ShareSolve", name := "shareOf", desc := "(III)I" } : Jvm.MethodName)) ∈ lw_tbl := lw_at lw_m21 65 rfl
theorem q5258 : (Jvm.Cond.instanceMethod ({ cls := "WasteHouse$ShareSolve", name := "shareOf", desc := "(III)I" } : Jvm.MethodName)) ∈ lw_all := lw_g (lw_at lw_m21 66 rfl) rfl
theorem q5259 : (Jvm.Cond.code ({ cls := "WasteHouse$ShareSolve", name := "shareOf", desc := "(III)I" } : Jvm.MethodName) prog_42_method_8_code (6 : Nat) (Option.some Jvm.ClassFile.FieldType.int)) ∈ lw_all := lw_g (lw_at lw_m21 67 rfl) rfl
theorem q5260 : (Jvm.Cond.methodLink "WasteHouse$ShareSolve" (166 : Nat) ({ cls := "WasteHouse$ShareSolve", name := "layOut", desc := "(ZII)V" } : Jvm.MethodName)) ∈ lw_all := lw_g (lw_at lw_m21 68 rfl) rfl
theorem q5261 : (Jvm.Cond.privateMethod ({ cls := "WasteHouse$ShareSolve", name := "layOut", desc := "(ZII)V" } : Jvm.MethodName)) ∈ lw_tbl := lw_at lw_m21 69 rfl
theorem q5262 : (Jvm.Cond.instanceMethod ({ cls := "WasteHouse$ShareSolve", name := "layOut", desc := "(ZII)V" } : Jvm.MethodName)) ∈ lw_all := lw_g (lw_at lw_m21 70 rfl) rfl
theorem q5263 : (Jvm.Cond.code ({ cls := "WasteHouse$ShareSolve", name := "layOut", desc := "(ZII)V" } : Jvm.MethodName) prog_42_method_16_code (9 : Nat) (Option.none : Option Jvm.ClassFile.FieldType)) ∈ lw_all := lw_g (lw_at lw_m21 71 rfl) rfl
theorem q5264 : (Jvm.Cond.methodLink "WasteHouse$ShareSolve" (132 : Nat) ({ cls := "WasteHouse$ShareSolve$Square", name := "begin", desc := "(I)V" } : Jvm.MethodName)) ∈ lw_all := lw_g (lw_at lw_m21 72 rfl) rfl
theorem q5269 : (Jvm.Cond.methodLink "WasteHouse$ShareSolve" (136 : Nat) ({ cls := "WasteHouse$ShareSolve$Square", name := "add", desc := "(IIII)V" } : Jvm.MethodName)) ∈ lw_all := lw_g (lw_at lw_m21 77 rfl) rfl
theorem q5303 : (Jvm.Cond.methodLink "WasteHouse$ShareSolve" (140 : Nat) ({ cls := "WasteHouse$ShareSolve$Square", name := "at", desc := "(II)LWasteHouse$ShareSolve$Whole;" } : Jvm.MethodName)) ∈ lw_all := lw_g (lw_at lw_m21 111 rfl) rfl
theorem q5304 : (Jvm.Cond.methodLink "WasteHouse$ShareSolve" (144 : Nat) ({ cls := "WasteHouse$ShareSolve", name := "scale", desc := "(LWasteHouse$ShareSolve$Whole;I)V" } : Jvm.MethodName)) ∈ lw_all := lw_g (lw_at lw_m21 112 rfl) rfl
theorem q5305 : (Jvm.Cond.privateMethod ({ cls := "WasteHouse$ShareSolve", name := "scale", desc := "(LWasteHouse$ShareSolve$Whole;I)V" } : Jvm.MethodName)) ∈ lw_tbl := lw_at lw_m21 113 rfl
theorem q5306 : (Jvm.Cond.instanceMethod ({ cls := "WasteHouse$ShareSolve", name := "scale", desc := "(LWasteHouse$ShareSolve$Whole;I)V" } : Jvm.MethodName)) ∈ lw_all := lw_g (lw_at lw_m21 114 rfl) rfl
theorem q5307 : (Jvm.Cond.code ({ cls := "WasteHouse$ShareSolve", name := "scale", desc := "(LWasteHouse$ShareSolve$Whole;I)V" } : Jvm.MethodName) prog_42_method_17_code (3 : Nat) (Option.none : Option Jvm.ClassFile.FieldType)) ∈ lw_all := lw_g (lw_at lw_m21 115 rfl) rfl
theorem q5308 : (Jvm.Cond.methodLink "WasteHouse$ShareSolve" (148 : Nat) ({ cls := "WasteHouse$ShareSolve$Whole", name := "set", desc := "(I)V" } : Jvm.MethodName)) ∈ lw_all := lw_g (lw_at lw_m21 116 rfl) rfl
theorem q5309 : (Jvm.Cond.methodLink "WasteHouse$ShareSolve" (151 : Nat) ({ cls := "WasteHouse$ShareSolve$Reckoner", name := "multiply", desc := "(LWasteHouse$ShareSolve$Whole;LWasteHouse$ShareSolve$Whole;LWasteHouse$ShareSolve$Whole;)V" } : Jvm.MethodName)) ∈ lw_all := lw_g (lw_at lw_m21 117 rfl) rfl
theorem q5310 : (Jvm.Cond.methodLink "WasteHouse$ShareSolve" (155 : Nat) ({ cls := "WasteHouse$ShareSolve$Whole", name := "copy", desc := "(LWasteHouse$ShareSolve$Whole;)V" } : Jvm.MethodName)) ∈ lw_all := lw_g (lw_at lw_m21 118 rfl) rfl
theorem q5315 : (Jvm.Cond.methodLink "WasteHouse$ShareSolve" (170 : Nat) ({ cls := "WasteHouse$ShareSolve$Square", name := "solve", desc := "()Z" } : Jvm.MethodName)) ∈ lw_all := lw_g (lw_at lw_m21 123 rfl) rfl
theorem q5355 : (Jvm.Cond.methodLink "WasteHouse$ShareSolve" (180 : Nat) ({ cls := "WasteHouse$ShareSolve", name := "unknown", desc := "(II)LWasteHouse$ShareSolve$Whole;" } : Jvm.MethodName)) ∈ lw_all := lw_g (lw_at lw_m21 163 rfl) rfl
theorem q5356 : (Jvm.Cond.privateMethod ({ cls := "WasteHouse$ShareSolve", name := "unknown", desc := "(II)LWasteHouse$ShareSolve$Whole;" } : Jvm.MethodName)) ∈ lw_tbl := lw_at lw_m21 164 rfl
theorem q5357 : (Jvm.Cond.instanceMethod ({ cls := "WasteHouse$ShareSolve", name := "unknown", desc := "(II)LWasteHouse$ShareSolve$Whole;" } : Jvm.MethodName)) ∈ lw_all := lw_g (lw_at lw_m21 165 rfl) rfl
theorem q5358 : (Jvm.Cond.code ({ cls := "WasteHouse$ShareSolve", name := "unknown", desc := "(II)LWasteHouse$ShareSolve$Whole;" } : Jvm.MethodName) prog_42_method_18_code (3 : Nat) (Option.some (Jvm.ClassFile.FieldType.object "WasteHouse$ShareSolve$Whole"))) ∈ lw_all := lw_g (lw_at lw_m21 166 rfl) rfl
theorem q5359 : (Jvm.Cond.methodLink "WasteHouse$ShareSolve" (183 : Nat) ({ cls := "WasteHouse$ShareSolve$Square", name := "under", desc := "()LWasteHouse$ShareSolve$Whole;" } : Jvm.MethodName)) ∈ lw_all := lw_g (lw_at lw_m21 167 rfl) rfl
theorem q5363 : (Jvm.Cond.methodLink "WasteHouse$ShareSolve" (187 : Nat) ({ cls := "WasteHouse$ShareSolve$Amount", name := "set", desc := "(LWasteHouse$ShareSolve$Whole;LWasteHouse$ShareSolve$Whole;)V" } : Jvm.MethodName)) ∈ lw_all := lw_g (lw_at lw_m21 171 rfl) rfl
theorem q5369 : (Jvm.Cond.methodLink "WasteHouse$ShareSolve" (190 : Nat) ({ cls := "WasteHouse$ShareSolve", name := "gather", desc := "(IILWasteHouse$ShareSolve$Amount;)V" } : Jvm.MethodName)) ∈ lw_all := lw_g (lw_at lw_m21 177 rfl) rfl
theorem q5370 : (Jvm.Cond.privateMethod ({ cls := "WasteHouse$ShareSolve", name := "gather", desc := "(IILWasteHouse$ShareSolve$Amount;)V" } : Jvm.MethodName)) ∈ lw_tbl := lw_at lw_m21 178 rfl
theorem q5371 : (Jvm.Cond.instanceMethod ({ cls := "WasteHouse$ShareSolve", name := "gather", desc := "(IILWasteHouse$ShareSolve$Amount;)V" } : Jvm.MethodName)) ∈ lw_all := lw_g (lw_at lw_m21 179 rfl) rfl
theorem q5372 : (Jvm.Cond.code ({ cls := "WasteHouse$ShareSolve", name := "gather", desc := "(IILWasteHouse$ShareSolve$Amount;)V" } : Jvm.MethodName) prog_42_method_20_code (7 : Nat) (Option.none : Option Jvm.ClassFile.FieldType)) ∈ lw_all := lw_g (lw_at lw_m21 180 rfl) rfl
theorem q5373 : (Jvm.Cond.methodLink "WasteHouse$ShareSolve" (194 : Nat) ({ cls := "WasteHouse$ShareSolve", name := "scaleInto", desc := "(LWasteHouse$ShareSolve$Whole;I)V" } : Jvm.MethodName)) ∈ lw_all := lw_g (lw_at lw_m21 181 rfl) rfl
theorem q5374 : (Jvm.Cond.privateMethod ({ cls := "WasteHouse$ShareSolve", name := "scaleInto", desc := "(LWasteHouse$ShareSolve$Whole;I)V" } : Jvm.MethodName)) ∈ lw_tbl := lw_at lw_m21 182 rfl
theorem q5375 : (Jvm.Cond.instanceMethod ({ cls := "WasteHouse$ShareSolve", name := "scaleInto", desc := "(LWasteHouse$ShareSolve$Whole;I)V" } : Jvm.MethodName)) ∈ lw_all := lw_g (lw_at lw_m21 183 rfl) rfl
theorem q5376 : (Jvm.Cond.code ({ cls := "WasteHouse$ShareSolve", name := "scaleInto", desc := "(LWasteHouse$ShareSolve$Whole;I)V" } : Jvm.MethodName) prog_42_method_21_code (3 : Nat) (Option.none : Option Jvm.ClassFile.FieldType)) ∈ lw_all := lw_g (lw_at lw_m21 184 rfl) rfl
theorem q5377 : (Jvm.Cond.methodLink "WasteHouse$ShareSolve" (200 : Nat) ({ cls := "WasteHouse$ShareSolve$Whole", name := "isZero", desc := "()Z" } : Jvm.MethodName)) ∈ lw_all := lw_g (lw_at lw_m21 185 rfl) rfl
theorem q5378 : (Jvm.Cond.methodLink "WasteHouse$ShareSolve" (203 : Nat) ({ cls := "WasteHouse$ShareSolve$Reckoner", name := "subtract", desc := "(LWasteHouse$ShareSolve$Whole;LWasteHouse$ShareSolve$Whole;)V" } : Jvm.MethodName)) ∈ lw_all := lw_g (lw_at lw_m21 186 rfl) rfl
theorem q5380 : (Jvm.Cond.instanceMethod ({ cls := "WasteHouse$ShareSolve", name := "out", desc := "(III)J" } : Jvm.MethodName)) ∈ lw_all := lw_g (lw_at lw_m21 188 rfl) rfl
theorem q5381 : (Jvm.Cond.selects "WasteHouse$ShareSolve" ({ cls := "WasteHouse$ShareSolve", name := "out", desc := "(III)J" } : Jvm.MethodName) ({ cls := "WasteHouse$ShareSolve", name := "out", desc := "(III)J" } : Jvm.MethodName)) ∈ lw_all := lw_g (lw_at lw_m21 189 rfl) rfl
theorem q5382 : (Jvm.Cond.code ({ cls := "WasteHouse$ShareSolve", name := "out", desc := "(III)J" } : Jvm.MethodName) prog_42_method_23_code (5 : Nat) (Option.some Jvm.ClassFile.FieldType.long)) ∈ lw_all := lw_g (lw_at lw_m21 190 rfl) rfl
theorem q5383 : (Jvm.Cond.methodLink "WasteHouse$ShareSolve" (206 : Nat) ({ cls := "WasteHouse$ShareSolve", name := "isPart", desc := "(I)Z" } : Jvm.MethodName)) ∈ lw_all := lw_g (lw_at lw_m21 191 rfl) rfl
theorem q5384 : (Jvm.Cond.static ({ cls := "WasteHouse$ShareSolve", name := "isPart", desc := "(I)Z" } : Jvm.MethodName)) ∈ lw_all := lw_g (lw_at lw_m21 192 rfl) rfl
theorem q5385 : (Jvm.Cond.code ({ cls := "WasteHouse$ShareSolve", name := "isPart", desc := "(I)Z" } : Jvm.MethodName) prog_42_method_22_code (1 : Nat) (Option.some Jvm.ClassFile.FieldType.boolean)) ∈ lw_all := lw_g (lw_at lw_m21 193 rfl) rfl
theorem q5386 : (Jvm.Cond.methodLink "WasteHouse$ShareSolve" (209 : Nat) ({ cls := "WasteHouse$ShareSolve$Amount", name := "part", desc := "(I)J" } : Jvm.MethodName)) ∈ lw_all := lw_g (lw_at lw_m21 194 rfl) rfl
theorem q5397 : (Jvm.Cond.constantLong "WasteHouse$ShareSolve" (213 : Nat) (-1 : Int64)) ∈ lw_all := lw_g (lw_at lw_m21 205 rfl) rfl
theorem q5682 : (Jvm.Cond.instanceMethod ({ cls := "WasteHouse$ShareSolve", name := "machine", desc := "(I)I" } : Jvm.MethodName)) ∈ lw_all := lw_g (lw_at lw_m23 10 rfl) rfl
theorem q5683 : (Jvm.Cond.selects "WasteHouse$ShareSolve" ({ cls := "WasteHouse$ShareSolve", name := "machine", desc := "(I)I" } : Jvm.MethodName) ({ cls := "WasteHouse$ShareSolve", name := "machine", desc := "(I)I" } : Jvm.MethodName)) ∈ lw_all := lw_g (lw_at lw_m23 11 rfl) rfl
theorem q5684 : (Jvm.Cond.code ({ cls := "WasteHouse$ShareSolve", name := "machine", desc := "(I)I" } : Jvm.MethodName) prog_42_method_5_code (2 : Nat) (Option.some Jvm.ClassFile.FieldType.int)) ∈ lw_all := lw_g (lw_at lw_m23 12 rfl) rfl
theorem q5686 : (Jvm.Cond.instanceMethod ({ cls := "WasteHouse$ShareSolve", name := "port", desc := "()I" } : Jvm.MethodName)) ∈ lw_all := lw_g (lw_at lw_m23 14 rfl) rfl
theorem q5687 : (Jvm.Cond.selects "WasteHouse$ShareSolve" ({ cls := "WasteHouse$ShareSolve", name := "port", desc := "()I" } : Jvm.MethodName) ({ cls := "WasteHouse$ShareSolve", name := "port", desc := "()I" } : Jvm.MethodName)) ∈ lw_all := lw_g (lw_at lw_m23 15 rfl) rfl
theorem q5688 : (Jvm.Cond.code ({ cls := "WasteHouse$ShareSolve", name := "port", desc := "()I" } : Jvm.MethodName) prog_42_method_6_code (1 : Nat) (Option.some Jvm.ClassFile.FieldType.int)) ∈ lw_all := lw_g (lw_at lw_m23 16 rfl) rfl
theorem q5690 : (Jvm.Cond.instanceMethod ({ cls := "WasteHouse$ShareSolve", name := "joinOut", desc := "(III)Z" } : Jvm.MethodName)) ∈ lw_all := lw_g (lw_at lw_m23 18 rfl) rfl
theorem q5691 : (Jvm.Cond.selects "WasteHouse$ShareSolve" ({ cls := "WasteHouse$ShareSolve", name := "joinOut", desc := "(III)Z" } : Jvm.MethodName) ({ cls := "WasteHouse$ShareSolve", name := "joinOut", desc := "(III)Z" } : Jvm.MethodName)) ∈ lw_all := lw_g (lw_at lw_m23 19 rfl) rfl
theorem q5692 : (Jvm.Cond.code ({ cls := "WasteHouse$ShareSolve", name := "joinOut", desc := "(III)Z" } : Jvm.MethodName) prog_42_method_7_code (4 : Nat) (Option.some Jvm.ClassFile.FieldType.boolean)) ∈ lw_all := lw_g (lw_at lw_m23 20 rfl) rfl
theorem q5696 : (Jvm.Cond.instanceMethod ({ cls := "WasteHouse$ShareSolve", name := "share", desc := "(IIIJJ)Z" } : Jvm.MethodName)) ∈ lw_all := lw_g (lw_at lw_m23 24 rfl) rfl
theorem q5697 : (Jvm.Cond.selects "WasteHouse$ShareSolve" ({ cls := "WasteHouse$ShareSolve", name := "share", desc := "(IIIJJ)Z" } : Jvm.MethodName) ({ cls := "WasteHouse$ShareSolve", name := "share", desc := "(IIIJJ)Z" } : Jvm.MethodName)) ∈ lw_all := lw_g (lw_at lw_m23 25 rfl) rfl
theorem q5698 : (Jvm.Cond.code ({ cls := "WasteHouse$ShareSolve", name := "share", desc := "(IIIJJ)Z" } : Jvm.MethodName) prog_42_method_9_code (10 : Nat) (Option.some Jvm.ClassFile.FieldType.boolean)) ∈ lw_all := lw_g (lw_at lw_m23 26 rfl) rfl
theorem q5699 : (Jvm.Cond.methodLink "WasteHouse$ShareSolve" (111 : Nat) ({ cls := "WasteHouse$ShareSolve", name := "isShare", desc := "(JJ)Z" } : Jvm.MethodName)) ∈ lw_all := lw_g (lw_at lw_m23 27 rfl) rfl
theorem q5700 : (Jvm.Cond.static ({ cls := "WasteHouse$ShareSolve", name := "isShare", desc := "(JJ)Z" } : Jvm.MethodName)) ∈ lw_all := lw_g (lw_at lw_m23 28 rfl) rfl
theorem q5701 : (Jvm.Cond.code ({ cls := "WasteHouse$ShareSolve", name := "isShare", desc := "(JJ)Z" } : Jvm.MethodName) prog_42_method_4_code (4 : Nat) (Option.some Jvm.ClassFile.FieldType.boolean)) ∈ lw_all := lw_g (lw_at lw_m23 29 rfl) rfl
theorem q5702 : (Jvm.Cond.constantLong "WasteHouse$ShareSolve" (95 : Nat) (12 : Int64)) ∈ lw_all := lw_g (lw_at lw_m23 30 rfl) rfl
theorem q5703 : (Jvm.Cond.constantLong "WasteHouse$ShareSolve" (115 : Nat) (27720 : Int64)) ∈ lw_all := lw_g (lw_at lw_m23 31 rfl) rfl
theorem q5705 : (Jvm.Cond.instanceMethod ({ cls := "WasteHouse$ShareSolve", name := "crush", desc := "(IIIJJ)Z" } : Jvm.MethodName)) ∈ lw_all := lw_g (lw_at lw_m23 33 rfl) rfl
theorem q5706 : (Jvm.Cond.selects "WasteHouse$ShareSolve" ({ cls := "WasteHouse$ShareSolve", name := "crush", desc := "(IIIJJ)Z" } : Jvm.MethodName) ({ cls := "WasteHouse$ShareSolve", name := "crush", desc := "(IIIJJ)Z" } : Jvm.MethodName)) ∈ lw_all := lw_g (lw_at lw_m23 34 rfl) rfl
theorem q5707 : (Jvm.Cond.code ({ cls := "WasteHouse$ShareSolve", name := "crush", desc := "(IIIJJ)Z" } : Jvm.MethodName) prog_42_method_10_code (8 : Nat) (Option.some Jvm.ClassFile.FieldType.boolean)) ∈ lw_all := lw_g (lw_at lw_m23 35 rfl) rfl
theorem q5712 : (Jvm.Cond.instanceMethod ({ cls := "WasteHouse$ShareSolve", name := "load", desc := "(II)J" } : Jvm.MethodName)) ∈ lw_all := lw_g (lw_at lw_m23 40 rfl) rfl
theorem q5713 : (Jvm.Cond.selects "WasteHouse$ShareSolve" ({ cls := "WasteHouse$ShareSolve", name := "load", desc := "(II)J" } : Jvm.MethodName) ({ cls := "WasteHouse$ShareSolve", name := "load", desc := "(II)J" } : Jvm.MethodName)) ∈ lw_all := lw_g (lw_at lw_m23 41 rfl) rfl
theorem q5714 : (Jvm.Cond.code ({ cls := "WasteHouse$ShareSolve", name := "load", desc := "(II)J" } : Jvm.MethodName) prog_42_method_25_code (3 : Nat) (Option.some Jvm.ClassFile.FieldType.long)) ∈ lw_all := lw_g (lw_at lw_m23 42 rfl) rfl
theorem q5715 : (Jvm.Cond.methodLink "WasteHouse$ShareSolve" (224 : Nat) ({ cls := "WasteHouse$ShareSolve", name := "loadOf", desc := "(ILWasteHouse$ShareSolve$Amount;)V" } : Jvm.MethodName)) ∈ lw_all := lw_g (lw_at lw_m23 43 rfl) rfl
theorem q5716 : (Jvm.Cond.privateMethod ({ cls := "WasteHouse$ShareSolve", name := "loadOf", desc := "(ILWasteHouse$ShareSolve$Amount;)V" } : Jvm.MethodName)) ∈ lw_tbl := lw_at lw_m23 44 rfl
theorem q5717 : (Jvm.Cond.instanceMethod ({ cls := "WasteHouse$ShareSolve", name := "loadOf", desc := "(ILWasteHouse$ShareSolve$Amount;)V" } : Jvm.MethodName)) ∈ lw_all := lw_g (lw_at lw_m23 45 rfl) rfl
theorem q5718 : (Jvm.Cond.code ({ cls := "WasteHouse$ShareSolve", name := "loadOf", desc := "(ILWasteHouse$ShareSolve$Amount;)V" } : Jvm.MethodName) prog_42_method_24_code (4 : Nat) (Option.none : Option Jvm.ClassFile.FieldType)) ∈ lw_all := lw_g (lw_at lw_m23 46 rfl) rfl
theorem q5719 : (Jvm.Cond.methodLink "WasteHouse$ShareSolve" (221 : Nat) ({ cls := "WasteHouse$ShareSolve$Amount", name := "add", desc := "(LWasteHouse$ShareSolve$Whole;Z)V" } : Jvm.MethodName)) ∈ lw_all := lw_g (lw_at lw_m23 47 rfl) rfl
theorem q5724 : (Jvm.Cond.instanceMethod ({ cls := "WasteHouse$ShareSolve", name := "span", desc := "(IJJ)Z" } : Jvm.MethodName)) ∈ lw_all := lw_g (lw_at lw_m23 52 rfl) rfl
theorem q5725 : (Jvm.Cond.selects "WasteHouse$ShareSolve" ({ cls := "WasteHouse$ShareSolve", name := "span", desc := "(IJJ)Z" } : Jvm.MethodName) ({ cls := "WasteHouse$ShareSolve", name := "span", desc := "(IJJ)Z" } : Jvm.MethodName)) ∈ lw_all := lw_g (lw_at lw_m23 53 rfl) rfl
theorem q5726 : (Jvm.Cond.code ({ cls := "WasteHouse$ShareSolve", name := "span", desc := "(IJJ)Z" } : Jvm.MethodName) prog_42_method_12_code (6 : Nat) (Option.some Jvm.ClassFile.FieldType.boolean)) ∈ lw_all := lw_g (lw_at lw_m23 54 rfl) rfl
theorem q5727 : (Jvm.Cond.constantLong "WasteHouse$ShareSolve" (123 : Nat) (1000000000 : Int64)) ∈ lw_all := lw_g (lw_at lw_m23 55 rfl) rfl
theorem q5729 : (Jvm.Cond.instanceMethod ({ cls := "WasteHouse$ShareSolve", name := "over", desc := "(I)I" } : Jvm.MethodName)) ∈ lw_all := lw_g (lw_at lw_m23 57 rfl) rfl
theorem q5730 : (Jvm.Cond.selects "WasteHouse$ShareSolve" ({ cls := "WasteHouse$ShareSolve", name := "over", desc := "(I)I" } : Jvm.MethodName) ({ cls := "WasteHouse$ShareSolve", name := "over", desc := "(I)I" } : Jvm.MethodName)) ∈ lw_all := lw_g (lw_at lw_m23 58 rfl) rfl
theorem q5731 : (Jvm.Cond.code ({ cls := "WasteHouse$ShareSolve", name := "over", desc := "(I)I" } : Jvm.MethodName) prog_42_method_26_code (4 : Nat) (Option.some Jvm.ClassFile.FieldType.int)) ∈ lw_all := lw_g (lw_at lw_m23 59 rfl) rfl
theorem q5732 : (Jvm.Cond.methodLink "WasteHouse$ShareSolve" (228 : Nat) ({ cls := "WasteHouse$ShareSolve$Amount", name := "compare", desc := "(I)I" } : Jvm.MethodName)) ∈ lw_all := lw_g (lw_at lw_m23 60 rfl) rfl
theorem q5738 : (Jvm.Cond.instanceMethod ({ cls := "WasteHouse$ShareSolve", name := "slope", desc := "(IIIII)J" } : Jvm.MethodName)) ∈ lw_all := lw_g (lw_at lw_m23 66 rfl) rfl
theorem q5739 : (Jvm.Cond.selects "WasteHouse$ShareSolve" ({ cls := "WasteHouse$ShareSolve", name := "slope", desc := "(IIIII)J" } : Jvm.MethodName) ({ cls := "WasteHouse$ShareSolve", name := "slope", desc := "(IIIII)J" } : Jvm.MethodName)) ∈ lw_all := lw_g (lw_at lw_m23 67 rfl) rfl
theorem q5740 : (Jvm.Cond.code ({ cls := "WasteHouse$ShareSolve", name := "slope", desc := "(IIIII)J" } : Jvm.MethodName) prog_42_method_29_code (9 : Nat) (Option.some Jvm.ClassFile.FieldType.long)) ∈ lw_all := lw_g (lw_at lw_m23 68 rfl) rfl
theorem q5741 : (Jvm.Cond.methodLink "WasteHouse$ShareSolve" (232 : Nat) ({ cls := "WasteHouse$ShareSolve", name := "worth", desc := "(IIILWasteHouse$ShareSolve$Amount;)V" } : Jvm.MethodName)) ∈ lw_all := lw_g (lw_at lw_m23 69 rfl) rfl
theorem q5742 : (Jvm.Cond.privateMethod ({ cls := "WasteHouse$ShareSolve", name := "worth", desc := "(IIILWasteHouse$ShareSolve$Amount;)V" } : Jvm.MethodName)) ∈ lw_tbl := lw_at lw_m23 70 rfl
theorem q5743 : (Jvm.Cond.instanceMethod ({ cls := "WasteHouse$ShareSolve", name := "worth", desc := "(IIILWasteHouse$ShareSolve$Amount;)V" } : Jvm.MethodName)) ∈ lw_all := lw_g (lw_at lw_m23 71 rfl) rfl
theorem q5744 : (Jvm.Cond.code ({ cls := "WasteHouse$ShareSolve", name := "worth", desc := "(IIILWasteHouse$ShareSolve$Amount;)V" } : Jvm.MethodName) prog_42_method_28_code (7 : Nat) (Option.none : Option Jvm.ClassFile.FieldType)) ∈ lw_all := lw_g (lw_at lw_m23 72 rfl) rfl
theorem q5745 : (Jvm.Cond.methodLink "WasteHouse$ShareSolve" (236 : Nat) ({ cls := "WasteHouse$ShareSolve", name := "lower", desc := "(LWasteHouse$ShareSolve$Amount;)V" } : Jvm.MethodName)) ∈ lw_all := lw_g (lw_at lw_m23 73 rfl) rfl
theorem q5746 : (Jvm.Cond.privateMethod ({ cls := "WasteHouse$ShareSolve", name := "lower", desc := "(LWasteHouse$ShareSolve$Amount;)V" } : Jvm.MethodName)) ∈ lw_tbl := lw_at lw_m23 74 rfl
theorem q5747 : (Jvm.Cond.instanceMethod ({ cls := "WasteHouse$ShareSolve", name := "lower", desc := "(LWasteHouse$ShareSolve$Amount;)V" } : Jvm.MethodName)) ∈ lw_all := lw_g (lw_at lw_m23 75 rfl) rfl
theorem q5748 : (Jvm.Cond.code ({ cls := "WasteHouse$ShareSolve", name := "lower", desc := "(LWasteHouse$ShareSolve$Amount;)V" } : Jvm.MethodName) prog_42_method_30_code (2 : Nat) (Option.none : Option Jvm.ClassFile.FieldType)) ∈ lw_all := lw_g (lw_at lw_m23 76 rfl) rfl
theorem q5749 : (Jvm.Cond.methodLink "WasteHouse$ShareSolve" (240 : Nat) ({ cls := "WasteHouse$ShareSolve$Reckoner", name := "gcd", desc := "(LWasteHouse$ShareSolve$Whole;LWasteHouse$ShareSolve$Whole;)V" } : Jvm.MethodName)) ∈ lw_all := lw_g (lw_at lw_m23 77 rfl) rfl
theorem q5753 : (Jvm.Cond.methodLink "WasteHouse$ShareSolve" (243 : Nat) ({ cls := "WasteHouse$ShareSolve$Reckoner", name := "exact", desc := "(LWasteHouse$ShareSolve$Whole;LWasteHouse$ShareSolve$Whole;)V" } : Jvm.MethodName)) ∈ lw_all := lw_g (lw_at lw_m23 81 rfl) rfl
theorem q5755 : (Jvm.Cond.instanceMethod ({ cls := "WasteHouse$ShareSolve", name := "purity", desc := "(III)J" } : Jvm.MethodName)) ∈ lw_all := lw_g (lw_at lw_m23 83 rfl) rfl
theorem q5756 : (Jvm.Cond.selects "WasteHouse$ShareSolve" ({ cls := "WasteHouse$ShareSolve", name := "purity", desc := "(III)J" } : Jvm.MethodName) ({ cls := "WasteHouse$ShareSolve", name := "purity", desc := "(III)J" } : Jvm.MethodName)) ∈ lw_all := lw_g (lw_at lw_m23 84 rfl) rfl
theorem q5757 : (Jvm.Cond.code ({ cls := "WasteHouse$ShareSolve", name := "purity", desc := "(III)J" } : Jvm.MethodName) prog_42_method_27_code (5 : Nat) (Option.some Jvm.ClassFile.FieldType.long)) ∈ lw_all := lw_g (lw_at lw_m23 85 rfl) rfl
theorem q5759 : (Jvm.Cond.instanceMethod ({ cls := "WasteHouse$ShareSolve", name := "change", desc := "(IIIJJ)Z" } : Jvm.MethodName)) ∈ lw_all := lw_g (lw_at lw_m23 87 rfl) rfl
theorem q5760 : (Jvm.Cond.selects "WasteHouse$ShareSolve" ({ cls := "WasteHouse$ShareSolve", name := "change", desc := "(IIIJJ)Z" } : Jvm.MethodName) ({ cls := "WasteHouse$ShareSolve", name := "change", desc := "(IIIJJ)Z" } : Jvm.MethodName)) ∈ lw_all := lw_g (lw_at lw_m23 88 rfl) rfl
theorem q5761 : (Jvm.Cond.code ({ cls := "WasteHouse$ShareSolve", name := "change", desc := "(IIIJJ)Z" } : Jvm.MethodName) prog_42_method_31_code (10 : Nat) (Option.some Jvm.ClassFile.FieldType.boolean)) ∈ lw_all := lw_g (lw_at lw_m23 89 rfl) rfl
theorem q5762 : (Jvm.Cond.methodLink "WasteHouse$ShareSolve" (246 : Nat) ({ cls := "WasteHouse$ShareSolve", name := "share", desc := "(IIIJJ)Z" } : Jvm.MethodName)) ∈ lw_all := lw_g (lw_at lw_m23 90 rfl) rfl
theorem q5763 : (Jvm.Cond.methodLink "WasteHouse$ShareSolve" (250 : Nat) ({ cls := "WasteHouse$ShareSolve", name := "solve", desc := "()I" } : Jvm.MethodName)) ∈ lw_all := lw_g (lw_at lw_m23 91 rfl) rfl
theorem q5765 : (Jvm.Cond.instanceMethod ({ cls := "WasteHouse$ShareSolve", name := "find", desc := "(IIJ)I" } : Jvm.MethodName)) ∈ lw_all := lw_g (lw_at lw_m23 93 rfl) rfl
theorem q5766 : (Jvm.Cond.selects "WasteHouse$ShareSolve" ({ cls := "WasteHouse$ShareSolve", name := "find", desc := "(IIJ)I" } : Jvm.MethodName) ({ cls := "WasteHouse$ShareSolve", name := "find", desc := "(IIJ)I" } : Jvm.MethodName)) ∈ lw_all := lw_g (lw_at lw_m23 94 rfl) rfl
theorem q5767 : (Jvm.Cond.code ({ cls := "WasteHouse$ShareSolve", name := "find", desc := "(IIJ)I" } : Jvm.MethodName) prog_42_method_32_code (11 : Nat) (Option.some Jvm.ClassFile.FieldType.int)) ∈ lw_all := lw_g (lw_at lw_m23 95 rfl) rfl
theorem q5768 : (Jvm.Cond.methodLink "WasteHouse$ShareSolve" (252 : Nat) ({ cls := "WasteHouse$ShareSolve", name := "comes", desc := "(II)Z" } : Jvm.MethodName)) ∈ lw_all := lw_g (lw_at lw_m23 96 rfl) rfl
theorem q5769 : (Jvm.Cond.privateMethod ({ cls := "WasteHouse$ShareSolve", name := "comes", desc := "(II)Z" } : Jvm.MethodName)) ∈ lw_tbl := lw_at lw_m23 97 rfl
theorem q5770 : (Jvm.Cond.instanceMethod ({ cls := "WasteHouse$ShareSolve", name := "comes", desc := "(II)Z" } : Jvm.MethodName)) ∈ lw_all := lw_g (lw_at lw_m23 98 rfl) rfl
theorem q5771 : (Jvm.Cond.code ({ cls := "WasteHouse$ShareSolve", name := "comes", desc := "(II)Z" } : Jvm.MethodName) prog_42_method_33_code (4 : Nat) (Option.some Jvm.ClassFile.FieldType.boolean)) ∈ lw_all := lw_g (lw_at lw_m23 99 rfl) rfl
theorem q5773 : (Jvm.Cond.instanceMethod ({ cls := "WasteHouse$ShareSolve", name := "kept", desc := "()Z" } : Jvm.MethodName)) ∈ lw_all := lw_g (lw_at lw_m23 101 rfl) rfl
theorem q5774 : (Jvm.Cond.selects "WasteHouse$ShareSolve" ({ cls := "WasteHouse$ShareSolve", name := "kept", desc := "()Z" } : Jvm.MethodName) ({ cls := "WasteHouse$ShareSolve", name := "kept", desc := "()Z" } : Jvm.MethodName)) ∈ lw_all := lw_g (lw_at lw_m23 102 rfl) rfl
theorem q5775 : (Jvm.Cond.code ({ cls := "WasteHouse$ShareSolve", name := "kept", desc := "()Z" } : Jvm.MethodName) prog_42_method_34_code (1 : Nat) (Option.some Jvm.ClassFile.FieldType.boolean)) ∈ lw_all := lw_g (lw_at lw_m23 103 rfl) rfl
theorem q9638 : (Jvm.Cond.castable "WasteHouse$ShareSolve" "java/lang/Object") ∈ lw_tbl := lw_at lw_m39 126 rfl
theorem in_X7 : ∀ w ∈ wsX70, w ∈ lw_all := lw_in wsX70 [860, 862, 864, 866, 868, 870, 872, 874, 876, 878, 880, 882, 884, 886, 888, 890, 892, 894, 896, 898, 900, 902, 904, 906, 908, 910, 912] (by decide +kernel) (by decide +kernel)
