/-! WasteHouseModel$ShareSolveModel -/
set_option maxRecDepth 100000
def RX50 : String := "WasteHouseModel$ShareSolveModel"
def TX50 : u_T := fun k => match k with
  | 0 => ("WasteHouseModel$ShareSolveModel", "kinds", "I", true)
  | 1 => ("WasteHouseModel$ShareSolveModel", "machines", "[I", true)
  | 2 => ("WasteHouseModel$ShareSolveModel", "ports", "[I", true)
  | 3 => ("WasteHouseModel$ShareSolveModel", "outs", "[I", true)
  | 4 => ("WasteHouseModel$ShareSolveModel", "joins", "[I", true)
  | 5 => ("WasteHouseModel$ShareSolveModel", "shareAbove", "[I", true)
  | 6 => ("WasteHouseModel$ShareSolveModel", "shareBelow", "[I", true)
  | 7 => ("WasteHouseModel$ShareSolveModel", "crushTo", "[I", true)
  | 8 => ("WasteHouseModel$ShareSolveModel", "crushAbove", "[I", true)
  | 9 => ("WasteHouseModel$ShareSolveModel", "crushBelow", "[I", true)
  | 10 => ("WasteHouseModel$ShareSolveModel", "feeds", "[I", true)
  | 11 => ("WasteHouseModel$ShareSolveModel", "spanned", "[Z", true)
  | 12 => ("WasteHouseModel$ShareSolveModel", "lows", "[J", true)
  | 13 => ("WasteHouseModel$ShareSolveModel", "highs", "[J", true)
  | 14 => ("WasteHouseModel$ShareSolveModel", "isKnown", "Z", false)
  | 15 => ("WasteHouseModel$ShareSolveModel", "isKept", "Z", false)
  | 16 => ("WasteHouseModel$ShareSolveModel", "primes", "[J", true)
  | 17 => ("WasteHouseModel$ShareSolveModel", "wholes", "[J", true)
  | 18 => ("WasteHouseModel$ShareSolveModel", "table", "[J", true)
  | 19 => ("WasteHouseModel$ShareSolveModel", "ways", "[J", true)
  | 20 => ("WasteHouseModel$ShareSolveModel", "matrix", "[J", true)
  | 21 => ("WasteHouseModel$ShareSolveModel", "power", "[J", true)
  | 22 => ("WasteHouseModel$ShareSolveModel", "next", "[J", true)
  | 23 => ("WasteHouseModel$ShareSolveModel", "turned", "[J", true)
  | 24 => ("WasteHouseModel$ShareSolveModel", "over", "[J", true)
  | 25 => ("WasteHouseModel$ShareSolveModel", "big", "[J", true)
  | 26 => ("WasteHouseModel$ShareSolveModel", "residues", "[J", true)
  | 27 => ("WasteHouseModel$ShareSolveModel", "digits", "[J", true)
  | 28 => ("WasteHouseModel$ShareSolveModel", "used", "I", false)
  | 29 => ("WasteHouseModel$ShareSolveModel", "isBeyond", "Z", false)
  | 30 => ("WasteHouseModel$ShareSolveModel", "weights", "[J", true)
  | 31 => ("WasteHouseModel$ShareSolveModel", "held", "I", false)
  | 32 => ("WasteHouseModel$ShareSolveModel", "heldTurn", "I", false)
  | _ => ("WasteHouseModel$ShareSolveModel", "turns", "[I", true)
def tyX50 : Nat → FieldType := fun k => match k with
  | 0 => .int
  | 1 => .array .int
  | 2 => .array .int
  | 3 => .array .int
  | 4 => .array .int
  | 5 => .array .int
  | 6 => .array .int
  | 7 => .array .int
  | 8 => .array .int
  | 9 => .array .int
  | 10 => .array .int
  | 11 => .array .boolean
  | 12 => .array .long
  | 13 => .array .long
  | 14 => .boolean
  | 15 => .boolean
  | 16 => .array .long
  | 17 => .array .long
  | 18 => .array .long
  | 19 => .array .long
  | 20 => .array .long
  | 21 => .array .long
  | 22 => .array .long
  | 23 => .array .long
  | 24 => .array .long
  | 25 => .array .long
  | 26 => .array .long
  | 27 => .array .long
  | 28 => .int
  | 29 => .boolean
  | 30 => .array .long
  | 31 => .int
  | 32 => .int
  | _ => .array .int
abbrev wsX500 : List Cond := u_ws RX50 TX50 34
set_option maxRecDepth 100000 in
theorem nmX50 : ∀ a, a < 34 → ∀ b, b < 34 → a ≠ b → (TX50 a).2.1 ≠ (TX50 b).2.1 := by decide +kernel
set_option maxRecDepth 100000 in
theorem tyX50_ok : ∀ k, k < 34 → parseFieldDescriptor (TX50 k).2.2.1 = some (tyX50 k) := by decide +kernel
abbrev cX50_init : ByteArray := prog_64_method_1_code
def yX50_init : MethodName := ⟨RX50, "<init>", "(I)V"⟩
def dkwX50_init_15 : List UInt8 := [180, 0, 51, 16, 6, 20, 0, 112, 80, 42, 180, 0, 51, 16, 7, 20, 0, 114, 80, 177]
abbrev dktX50_init_15 : List UInt8 := dkwX50_init_15 ++ []
def dkwX50_init_14 : List UInt8 := [20, 0, 106, 80, 42, 180, 0, 51, 7, 20, 0, 108, 80, 42, 180, 0, 51, 8, 20, 0, 110, 80, 42]
abbrev dktX50_init_14 : List UInt8 := dkwX50_init_14 ++ dktX50_init_15
def dkwX50_init_13 : List UInt8 := [180, 0, 51, 4, 20, 0, 102, 80, 42, 180, 0, 51, 5, 20, 0, 104, 80, 42, 180, 0, 51, 6]
abbrev dktX50_init_13 : List UInt8 := dkwX50_init_13 ++ dktX50_init_14
def dkwX50_init_12 : List UInt8 := [180, 0, 19, 28, 2, 79, 132, 2, 1, 167, 255, 233, 42, 180, 0, 51, 3, 20, 0, 100, 80, 42]
abbrev dktX50_init_12 : List UInt8 := dkwX50_init_12 ++ dktX50_init_13
def dkwX50_init_11 : List UInt8 := [132, 2, 1, 167, 255, 240, 3, 61, 28, 16, 18, 162, 0, 23, 42, 180, 0, 34, 28, 4, 79, 42]
abbrev dktX50_init_11 : List UInt8 := dkwX50_init_11 ++ dktX50_init_12
def dkwX50_init_10 : List UInt8 := [167, 0, 4, 4, 181, 0, 97, 3, 61, 28, 16, 36, 162, 0, 16, 42, 180, 0, 25, 28, 4, 79]
abbrev dktX50_init_10 : List UInt8 := dkwX50_init_10 ++ dktX50_init_11
def dkwX50_init_9 : List UInt8 := [2, 181, 0, 90, 42, 5, 188, 10, 181, 0, 94, 42, 27, 4, 161, 0, 12, 27, 6, 163, 0, 7, 27]
abbrev dktX50_init_9 : List UInt8 := dkwX50_init_9 ++ dktX50_init_10
def dkwX50_init_8 : List UInt8 := [16, 8, 188, 11, 181, 0, 81, 42, 16, 8, 188, 11, 181, 0, 84, 42, 16, 9, 188, 11, 181, 0, 87, 42]
abbrev dktX50_init_8 : List UInt8 := dkwX50_init_8 ++ dktX50_init_9
def dkwX50_init_7 : List UInt8 := [188, 11, 181, 0, 72, 42, 16, 8, 188, 11, 181, 0, 75, 42, 17, 0, 144, 188, 11, 181, 0, 78, 42]
abbrev dktX50_init_7 : List UInt8 := dkwX50_init_7 ++ dktX50_init_8
def dkwX50_init_6 : List UInt8 := [181, 0, 63, 42, 16, 81, 188, 11, 181, 0, 66, 42, 16, 81, 188, 11, 181, 0, 69, 42, 17, 2, 136]
abbrev dktX50_init_6 : List UInt8 := dkwX50_init_6 ++ dktX50_init_7
def dkwX50_init_5 : List UInt8 := [181, 0, 54, 42, 16, 81, 188, 11, 181, 0, 57, 42, 16, 81, 188, 11, 181, 0, 60, 42, 16, 81, 188, 11]
abbrev dktX50_init_5 : List UInt8 := dkwX50_init_5 ++ dktX50_init_6
def dkwX50_init_4 : List UInt8 := [181, 0, 44, 42, 6, 188, 11, 181, 0, 48, 42, 16, 8, 188, 11, 181, 0, 51, 42, 16, 9, 188, 11]
abbrev dktX50_init_4 : List UInt8 := dkwX50_init_4 ++ dktX50_init_5
def dkwX50_init_3 : List UInt8 := [181, 0, 34, 42, 16, 18, 188, 10, 181, 0, 37, 42, 6, 188, 4, 181, 0, 40, 42, 6, 188, 11]
abbrev dktX50_init_3 : List UInt8 := dkwX50_init_3 ++ dktX50_init_4
def dkwX50_init_2 : List UInt8 := [181, 0, 25, 42, 16, 18, 188, 10, 181, 0, 28, 42, 16, 18, 188, 10, 181, 0, 31, 42, 16, 18, 188, 10]
abbrev dktX50_init_2 : List UInt8 := dkwX50_init_2 ++ dktX50_init_3
def dkwX50_init_1 : List UInt8 := [181, 0, 16, 42, 16, 18, 188, 10, 181, 0, 19, 42, 16, 36, 188, 10, 181, 0, 22, 42, 16, 36, 188, 10]
abbrev dktX50_init_1 : List UInt8 := dkwX50_init_1 ++ dktX50_init_2
def dkwX50_init_0 : List UInt8 := [42, 183, 0, 1, 42, 5, 188, 10, 181, 0, 7, 42, 5, 188, 10, 181, 0, 13, 42, 16, 6, 188, 10]
abbrev dktX50_init_0 : List UInt8 := dkwX50_init_0 ++ dktX50_init_1
theorem dksX50_init_0 : cX50_init.data.toList.drop 0 = dktX50_init_0 := by decide +kernel
theorem dksX50_init_1 : cX50_init.data.toList.drop 23 = dktX50_init_1 := dk_seg dksX50_init_0 23 rfl rfl
theorem dksX50_init_2 : cX50_init.data.toList.drop 47 = dktX50_init_2 := dk_seg dksX50_init_1 24 rfl rfl
theorem dksX50_init_3 : cX50_init.data.toList.drop 71 = dktX50_init_3 := dk_seg dksX50_init_2 24 rfl rfl
theorem dksX50_init_4 : cX50_init.data.toList.drop 93 = dktX50_init_4 := dk_seg dksX50_init_3 22 rfl rfl
theorem dksX50_init_5 : cX50_init.data.toList.drop 116 = dktX50_init_5 := dk_seg dksX50_init_4 23 rfl rfl
theorem dksX50_init_6 : cX50_init.data.toList.drop 140 = dktX50_init_6 := dk_seg dksX50_init_5 24 rfl rfl
theorem dksX50_init_7 : cX50_init.data.toList.drop 163 = dktX50_init_7 := dk_seg dksX50_init_6 23 rfl rfl
theorem dksX50_init_8 : cX50_init.data.toList.drop 186 = dktX50_init_8 := dk_seg dksX50_init_7 23 rfl rfl
theorem dksX50_init_9 : cX50_init.data.toList.drop 210 = dktX50_init_9 := dk_seg dksX50_init_8 24 rfl rfl
theorem dksX50_init_10 : cX50_init.data.toList.drop 233 = dktX50_init_10 := dk_seg dksX50_init_9 23 rfl rfl
theorem dksX50_init_11 : cX50_init.data.toList.drop 255 = dktX50_init_11 := dk_seg dksX50_init_10 22 rfl rfl
theorem dksX50_init_12 : cX50_init.data.toList.drop 277 = dktX50_init_12 := dk_seg dksX50_init_11 22 rfl rfl
theorem dksX50_init_13 : cX50_init.data.toList.drop 299 = dktX50_init_13 := dk_seg dksX50_init_12 22 rfl rfl
theorem dksX50_init_14 : cX50_init.data.toList.drop 321 = dktX50_init_14 := dk_seg dksX50_init_13 22 rfl rfl
theorem dksX50_init_15 : cX50_init.data.toList.drop 344 = dktX50_init_15 := dk_seg dksX50_init_14 23 rfl rfl
theorem dX50_init_0 : decode cX50_init 0 = .ok (.aload_n 0, 1) := dk_42 (dk_at dksX50_init_0 0 rfl rfl)
theorem dX50_init_1 : decode cX50_init 1 = .ok (.invokespecial 1, 3) := dk_183 0 1 (dk_at dksX50_init_0 1 rfl rfl)
theorem dX50_init_4 : decode cX50_init 4 = .ok (.aload_n 0, 1) := dk_42 (dk_at dksX50_init_0 4 rfl rfl)
theorem dX50_init_5 : decode cX50_init 5 = .ok (.iconst 2, 1) := dk_5 (dk_at dksX50_init_0 5 rfl rfl)
theorem dX50_init_6 : decode cX50_init 6 = .ok (.newarray .int, 2) := dk_188_10 (dk_at dksX50_init_0 6 rfl rfl)
theorem dX50_init_8 : decode cX50_init 8 = .ok (.putfield 7, 3) := dk_181 0 7 (dk_at dksX50_init_0 8 rfl rfl)
theorem dX50_init_11 : decode cX50_init 11 = .ok (.aload_n 0, 1) := dk_42 (dk_at dksX50_init_0 11 rfl rfl)
theorem dX50_init_12 : decode cX50_init 12 = .ok (.iconst 2, 1) := dk_5 (dk_at dksX50_init_0 12 rfl rfl)
theorem dX50_init_13 : decode cX50_init 13 = .ok (.newarray .int, 2) := dk_188_10 (dk_at dksX50_init_0 13 rfl rfl)
theorem dX50_init_15 : decode cX50_init 15 = .ok (.putfield 13, 3) := dk_181 0 13 (dk_at dksX50_init_0 15 rfl rfl)
theorem dX50_init_18 : decode cX50_init 18 = .ok (.aload_n 0, 1) := dk_42 (dk_at dksX50_init_0 18 rfl rfl)
theorem dX50_init_19 : decode cX50_init 19 = .ok (.bipush 6, 2) := dk_16 6 (dk_at dksX50_init_0 19 rfl rfl)
theorem dX50_init_21 : decode cX50_init 21 = .ok (.newarray .int, 2) := dk_188_10 (dk_at dksX50_init_0 21 rfl rfl)
theorem dX50_init_23 : decode cX50_init 23 = .ok (.putfield 16, 3) := dk_181 0 16 (dk_at dksX50_init_1 0 rfl rfl)
theorem dX50_init_26 : decode cX50_init 26 = .ok (.aload_n 0, 1) := dk_42 (dk_at dksX50_init_1 3 rfl rfl)
theorem dX50_init_27 : decode cX50_init 27 = .ok (.bipush 18, 2) := dk_16 18 (dk_at dksX50_init_1 4 rfl rfl)
theorem dX50_init_29 : decode cX50_init 29 = .ok (.newarray .int, 2) := dk_188_10 (dk_at dksX50_init_1 6 rfl rfl)
theorem dX50_init_31 : decode cX50_init 31 = .ok (.putfield 19, 3) := dk_181 0 19 (dk_at dksX50_init_1 8 rfl rfl)
theorem dX50_init_34 : decode cX50_init 34 = .ok (.aload_n 0, 1) := dk_42 (dk_at dksX50_init_1 11 rfl rfl)
theorem dX50_init_35 : decode cX50_init 35 = .ok (.bipush 36, 2) := dk_16 36 (dk_at dksX50_init_1 12 rfl rfl)
theorem dX50_init_37 : decode cX50_init 37 = .ok (.newarray .int, 2) := dk_188_10 (dk_at dksX50_init_1 14 rfl rfl)
theorem dX50_init_39 : decode cX50_init 39 = .ok (.putfield 22, 3) := dk_181 0 22 (dk_at dksX50_init_1 16 rfl rfl)
theorem dX50_init_42 : decode cX50_init 42 = .ok (.aload_n 0, 1) := dk_42 (dk_at dksX50_init_1 19 rfl rfl)
theorem dX50_init_43 : decode cX50_init 43 = .ok (.bipush 36, 2) := dk_16 36 (dk_at dksX50_init_1 20 rfl rfl)
theorem dX50_init_45 : decode cX50_init 45 = .ok (.newarray .int, 2) := dk_188_10 (dk_at dksX50_init_1 22 rfl rfl)
theorem dX50_init_47 : decode cX50_init 47 = .ok (.putfield 25, 3) := dk_181 0 25 (dk_at dksX50_init_2 0 rfl rfl)
theorem dX50_init_50 : decode cX50_init 50 = .ok (.aload_n 0, 1) := dk_42 (dk_at dksX50_init_2 3 rfl rfl)
theorem dX50_init_51 : decode cX50_init 51 = .ok (.bipush 18, 2) := dk_16 18 (dk_at dksX50_init_2 4 rfl rfl)
theorem dX50_init_53 : decode cX50_init 53 = .ok (.newarray .int, 2) := dk_188_10 (dk_at dksX50_init_2 6 rfl rfl)
theorem dX50_init_55 : decode cX50_init 55 = .ok (.putfield 28, 3) := dk_181 0 28 (dk_at dksX50_init_2 8 rfl rfl)
theorem dX50_init_58 : decode cX50_init 58 = .ok (.aload_n 0, 1) := dk_42 (dk_at dksX50_init_2 11 rfl rfl)
theorem dX50_init_59 : decode cX50_init 59 = .ok (.bipush 18, 2) := dk_16 18 (dk_at dksX50_init_2 12 rfl rfl)
theorem dX50_init_61 : decode cX50_init 61 = .ok (.newarray .int, 2) := dk_188_10 (dk_at dksX50_init_2 14 rfl rfl)
theorem dX50_init_63 : decode cX50_init 63 = .ok (.putfield 31, 3) := dk_181 0 31 (dk_at dksX50_init_2 16 rfl rfl)
theorem dX50_init_66 : decode cX50_init 66 = .ok (.aload_n 0, 1) := dk_42 (dk_at dksX50_init_2 19 rfl rfl)
theorem dX50_init_67 : decode cX50_init 67 = .ok (.bipush 18, 2) := dk_16 18 (dk_at dksX50_init_2 20 rfl rfl)
theorem dX50_init_69 : decode cX50_init 69 = .ok (.newarray .int, 2) := dk_188_10 (dk_at dksX50_init_2 22 rfl rfl)
theorem dX50_init_71 : decode cX50_init 71 = .ok (.putfield 34, 3) := dk_181 0 34 (dk_at dksX50_init_3 0 rfl rfl)
theorem dX50_init_74 : decode cX50_init 74 = .ok (.aload_n 0, 1) := dk_42 (dk_at dksX50_init_3 3 rfl rfl)
theorem dX50_init_75 : decode cX50_init 75 = .ok (.bipush 18, 2) := dk_16 18 (dk_at dksX50_init_3 4 rfl rfl)
theorem dX50_init_77 : decode cX50_init 77 = .ok (.newarray .int, 2) := dk_188_10 (dk_at dksX50_init_3 6 rfl rfl)
theorem dX50_init_79 : decode cX50_init 79 = .ok (.putfield 37, 3) := dk_181 0 37 (dk_at dksX50_init_3 8 rfl rfl)
theorem dX50_init_82 : decode cX50_init 82 = .ok (.aload_n 0, 1) := dk_42 (dk_at dksX50_init_3 11 rfl rfl)
theorem dX50_init_83 : decode cX50_init 83 = .ok (.iconst 3, 1) := dk_6 (dk_at dksX50_init_3 12 rfl rfl)
theorem dX50_init_84 : decode cX50_init 84 = .ok (.newarray .boolean, 2) := dk_188_4 (dk_at dksX50_init_3 13 rfl rfl)
theorem dX50_init_86 : decode cX50_init 86 = .ok (.putfield 40, 3) := dk_181 0 40 (dk_at dksX50_init_3 15 rfl rfl)
theorem dX50_init_89 : decode cX50_init 89 = .ok (.aload_n 0, 1) := dk_42 (dk_at dksX50_init_3 18 rfl rfl)
theorem dX50_init_90 : decode cX50_init 90 = .ok (.iconst 3, 1) := dk_6 (dk_at dksX50_init_3 19 rfl rfl)
theorem dX50_init_91 : decode cX50_init 91 = .ok (.newarray .long, 2) := dk_188_11 (dk_at dksX50_init_3 20 rfl rfl)
theorem dX50_init_93 : decode cX50_init 93 = .ok (.putfield 44, 3) := dk_181 0 44 (dk_at dksX50_init_4 0 rfl rfl)
theorem dX50_init_96 : decode cX50_init 96 = .ok (.aload_n 0, 1) := dk_42 (dk_at dksX50_init_4 3 rfl rfl)
theorem dX50_init_97 : decode cX50_init 97 = .ok (.iconst 3, 1) := dk_6 (dk_at dksX50_init_4 4 rfl rfl)
theorem dX50_init_98 : decode cX50_init 98 = .ok (.newarray .long, 2) := dk_188_11 (dk_at dksX50_init_4 5 rfl rfl)
theorem dX50_init_100 : decode cX50_init 100 = .ok (.putfield 48, 3) := dk_181 0 48 (dk_at dksX50_init_4 7 rfl rfl)
theorem dX50_init_103 : decode cX50_init 103 = .ok (.aload_n 0, 1) := dk_42 (dk_at dksX50_init_4 10 rfl rfl)
theorem dX50_init_104 : decode cX50_init 104 = .ok (.bipush 8, 2) := dk_16 8 (dk_at dksX50_init_4 11 rfl rfl)
theorem dX50_init_106 : decode cX50_init 106 = .ok (.newarray .long, 2) := dk_188_11 (dk_at dksX50_init_4 13 rfl rfl)
theorem dX50_init_108 : decode cX50_init 108 = .ok (.putfield 51, 3) := dk_181 0 51 (dk_at dksX50_init_4 15 rfl rfl)
theorem dX50_init_111 : decode cX50_init 111 = .ok (.aload_n 0, 1) := dk_42 (dk_at dksX50_init_4 18 rfl rfl)
theorem dX50_init_112 : decode cX50_init 112 = .ok (.bipush 9, 2) := dk_16 9 (dk_at dksX50_init_4 19 rfl rfl)
theorem dX50_init_114 : decode cX50_init 114 = .ok (.newarray .long, 2) := dk_188_11 (dk_at dksX50_init_4 21 rfl rfl)
theorem dX50_init_116 : decode cX50_init 116 = .ok (.putfield 54, 3) := dk_181 0 54 (dk_at dksX50_init_5 0 rfl rfl)
theorem dX50_init_119 : decode cX50_init 119 = .ok (.aload_n 0, 1) := dk_42 (dk_at dksX50_init_5 3 rfl rfl)
theorem dX50_init_120 : decode cX50_init 120 = .ok (.bipush 81, 2) := dk_16 81 (dk_at dksX50_init_5 4 rfl rfl)
theorem dX50_init_122 : decode cX50_init 122 = .ok (.newarray .long, 2) := dk_188_11 (dk_at dksX50_init_5 6 rfl rfl)
theorem dX50_init_124 : decode cX50_init 124 = .ok (.putfield 57, 3) := dk_181 0 57 (dk_at dksX50_init_5 8 rfl rfl)
theorem dX50_init_127 : decode cX50_init 127 = .ok (.aload_n 0, 1) := dk_42 (dk_at dksX50_init_5 11 rfl rfl)
theorem dX50_init_128 : decode cX50_init 128 = .ok (.bipush 81, 2) := dk_16 81 (dk_at dksX50_init_5 12 rfl rfl)
theorem dX50_init_130 : decode cX50_init 130 = .ok (.newarray .long, 2) := dk_188_11 (dk_at dksX50_init_5 14 rfl rfl)
theorem dX50_init_132 : decode cX50_init 132 = .ok (.putfield 60, 3) := dk_181 0 60 (dk_at dksX50_init_5 16 rfl rfl)
theorem dX50_init_135 : decode cX50_init 135 = .ok (.aload_n 0, 1) := dk_42 (dk_at dksX50_init_5 19 rfl rfl)
theorem dX50_init_136 : decode cX50_init 136 = .ok (.bipush 81, 2) := dk_16 81 (dk_at dksX50_init_5 20 rfl rfl)
theorem dX50_init_138 : decode cX50_init 138 = .ok (.newarray .long, 2) := dk_188_11 (dk_at dksX50_init_5 22 rfl rfl)
theorem dX50_init_140 : decode cX50_init 140 = .ok (.putfield 63, 3) := dk_181 0 63 (dk_at dksX50_init_6 0 rfl rfl)
theorem dX50_init_143 : decode cX50_init 143 = .ok (.aload_n 0, 1) := dk_42 (dk_at dksX50_init_6 3 rfl rfl)
theorem dX50_init_144 : decode cX50_init 144 = .ok (.bipush 81, 2) := dk_16 81 (dk_at dksX50_init_6 4 rfl rfl)
theorem dX50_init_146 : decode cX50_init 146 = .ok (.newarray .long, 2) := dk_188_11 (dk_at dksX50_init_6 6 rfl rfl)
theorem dX50_init_148 : decode cX50_init 148 = .ok (.putfield 66, 3) := dk_181 0 66 (dk_at dksX50_init_6 8 rfl rfl)
theorem dX50_init_151 : decode cX50_init 151 = .ok (.aload_n 0, 1) := dk_42 (dk_at dksX50_init_6 11 rfl rfl)
theorem dX50_init_152 : decode cX50_init 152 = .ok (.bipush 81, 2) := dk_16 81 (dk_at dksX50_init_6 12 rfl rfl)
theorem dX50_init_154 : decode cX50_init 154 = .ok (.newarray .long, 2) := dk_188_11 (dk_at dksX50_init_6 14 rfl rfl)
theorem dX50_init_156 : decode cX50_init 156 = .ok (.putfield 69, 3) := dk_181 0 69 (dk_at dksX50_init_6 16 rfl rfl)
theorem dX50_init_159 : decode cX50_init 159 = .ok (.aload_n 0, 1) := dk_42 (dk_at dksX50_init_6 19 rfl rfl)
theorem dX50_init_160 : decode cX50_init 160 = .ok (.sipush 648, 3) := dk_17 2 136 (dk_at dksX50_init_6 20 rfl rfl)
theorem dX50_init_163 : decode cX50_init 163 = .ok (.newarray .long, 2) := dk_188_11 (dk_at dksX50_init_7 0 rfl rfl)
theorem dX50_init_165 : decode cX50_init 165 = .ok (.putfield 72, 3) := dk_181 0 72 (dk_at dksX50_init_7 2 rfl rfl)
theorem dX50_init_168 : decode cX50_init 168 = .ok (.aload_n 0, 1) := dk_42 (dk_at dksX50_init_7 5 rfl rfl)
theorem dX50_init_169 : decode cX50_init 169 = .ok (.bipush 8, 2) := dk_16 8 (dk_at dksX50_init_7 6 rfl rfl)
theorem dX50_init_171 : decode cX50_init 171 = .ok (.newarray .long, 2) := dk_188_11 (dk_at dksX50_init_7 8 rfl rfl)
theorem dX50_init_173 : decode cX50_init 173 = .ok (.putfield 75, 3) := dk_181 0 75 (dk_at dksX50_init_7 10 rfl rfl)
theorem dX50_init_176 : decode cX50_init 176 = .ok (.aload_n 0, 1) := dk_42 (dk_at dksX50_init_7 13 rfl rfl)
theorem dX50_init_177 : decode cX50_init 177 = .ok (.sipush 144, 3) := dk_17 0 144 (dk_at dksX50_init_7 14 rfl rfl)
theorem dX50_init_180 : decode cX50_init 180 = .ok (.newarray .long, 2) := dk_188_11 (dk_at dksX50_init_7 17 rfl rfl)
theorem dX50_init_182 : decode cX50_init 182 = .ok (.putfield 78, 3) := dk_181 0 78 (dk_at dksX50_init_7 19 rfl rfl)
theorem dX50_init_185 : decode cX50_init 185 = .ok (.aload_n 0, 1) := dk_42 (dk_at dksX50_init_7 22 rfl rfl)
theorem dX50_init_186 : decode cX50_init 186 = .ok (.bipush 8, 2) := dk_16 8 (dk_at dksX50_init_8 0 rfl rfl)
theorem dX50_init_188 : decode cX50_init 188 = .ok (.newarray .long, 2) := dk_188_11 (dk_at dksX50_init_8 2 rfl rfl)
theorem dX50_init_190 : decode cX50_init 190 = .ok (.putfield 81, 3) := dk_181 0 81 (dk_at dksX50_init_8 4 rfl rfl)
theorem dX50_init_193 : decode cX50_init 193 = .ok (.aload_n 0, 1) := dk_42 (dk_at dksX50_init_8 7 rfl rfl)
theorem dX50_init_194 : decode cX50_init 194 = .ok (.bipush 8, 2) := dk_16 8 (dk_at dksX50_init_8 8 rfl rfl)
theorem dX50_init_196 : decode cX50_init 196 = .ok (.newarray .long, 2) := dk_188_11 (dk_at dksX50_init_8 10 rfl rfl)
theorem dX50_init_198 : decode cX50_init 198 = .ok (.putfield 84, 3) := dk_181 0 84 (dk_at dksX50_init_8 12 rfl rfl)
theorem dX50_init_201 : decode cX50_init 201 = .ok (.aload_n 0, 1) := dk_42 (dk_at dksX50_init_8 15 rfl rfl)
theorem dX50_init_202 : decode cX50_init 202 = .ok (.bipush 9, 2) := dk_16 9 (dk_at dksX50_init_8 16 rfl rfl)
theorem dX50_init_204 : decode cX50_init 204 = .ok (.newarray .long, 2) := dk_188_11 (dk_at dksX50_init_8 18 rfl rfl)
theorem dX50_init_206 : decode cX50_init 206 = .ok (.putfield 87, 3) := dk_181 0 87 (dk_at dksX50_init_8 20 rfl rfl)
theorem dX50_init_209 : decode cX50_init 209 = .ok (.aload_n 0, 1) := dk_42 (dk_at dksX50_init_8 23 rfl rfl)
theorem dX50_init_210 : decode cX50_init 210 = .ok (.iconst (-1), 1) := dk_2 (dk_at dksX50_init_9 0 rfl rfl)
theorem dX50_init_211 : decode cX50_init 211 = .ok (.putfield 90, 3) := dk_181 0 90 (dk_at dksX50_init_9 1 rfl rfl)
theorem dX50_init_214 : decode cX50_init 214 = .ok (.aload_n 0, 1) := dk_42 (dk_at dksX50_init_9 4 rfl rfl)
theorem dX50_init_215 : decode cX50_init 215 = .ok (.iconst 2, 1) := dk_5 (dk_at dksX50_init_9 5 rfl rfl)
theorem dX50_init_216 : decode cX50_init 216 = .ok (.newarray .int, 2) := dk_188_10 (dk_at dksX50_init_9 6 rfl rfl)
theorem dX50_init_218 : decode cX50_init 218 = .ok (.putfield 94, 3) := dk_181 0 94 (dk_at dksX50_init_9 8 rfl rfl)
theorem dX50_init_221 : decode cX50_init 221 = .ok (.aload_n 0, 1) := dk_42 (dk_at dksX50_init_9 11 rfl rfl)
theorem dX50_init_222 : decode cX50_init 222 = .ok (.iload_n 1, 1) := dk_27 (dk_at dksX50_init_9 12 rfl rfl)
theorem dX50_init_223 : decode cX50_init 223 = .ok (.iconst 1, 1) := dk_4 (dk_at dksX50_init_9 13 rfl rfl)
theorem dX50_init_224 : decode cX50_init 224 = .ok (.if_icmp .lt 12, 3) := dk_161 0 12 (dk_at dksX50_init_9 14 rfl rfl)
theorem dX50_init_227 : decode cX50_init 227 = .ok (.iload_n 1, 1) := dk_27 (dk_at dksX50_init_9 17 rfl rfl)
theorem dX50_init_228 : decode cX50_init 228 = .ok (.iconst 3, 1) := dk_6 (dk_at dksX50_init_9 18 rfl rfl)
theorem dX50_init_229 : decode cX50_init 229 = .ok (.if_icmp .gt 7, 3) := dk_163 0 7 (dk_at dksX50_init_9 19 rfl rfl)
theorem dX50_init_232 : decode cX50_init 232 = .ok (.iload_n 1, 1) := dk_27 (dk_at dksX50_init_9 22 rfl rfl)
theorem dX50_init_233 : decode cX50_init 233 = .ok (.goto 4, 3) := dk_167 0 4 (dk_at dksX50_init_10 0 rfl rfl)
theorem dX50_init_236 : decode cX50_init 236 = .ok (.iconst 1, 1) := dk_4 (dk_at dksX50_init_10 3 rfl rfl)
theorem dX50_init_237 : decode cX50_init 237 = .ok (.putfield 97, 3) := dk_181 0 97 (dk_at dksX50_init_10 4 rfl rfl)
theorem dX50_init_240 : decode cX50_init 240 = .ok (.iconst 0, 1) := dk_3 (dk_at dksX50_init_10 7 rfl rfl)
theorem dX50_init_241 : decode cX50_init 241 = .ok (.istore_n 2, 1) := dk_61 (dk_at dksX50_init_10 8 rfl rfl)
theorem dX50_init_242 : decode cX50_init 242 = .ok (.iload_n 2, 1) := dk_28 (dk_at dksX50_init_10 9 rfl rfl)
theorem dX50_init_243 : decode cX50_init 243 = .ok (.bipush 36, 2) := dk_16 36 (dk_at dksX50_init_10 10 rfl rfl)
theorem dX50_init_245 : decode cX50_init 245 = .ok (.if_icmp .ge 16, 3) := dk_162 0 16 (dk_at dksX50_init_10 12 rfl rfl)
theorem dX50_init_248 : decode cX50_init 248 = .ok (.aload_n 0, 1) := dk_42 (dk_at dksX50_init_10 15 rfl rfl)
theorem dX50_init_249 : decode cX50_init 249 = .ok (.getfield 25, 3) := dk_180 0 25 (dk_at dksX50_init_10 16 rfl rfl)
theorem dX50_init_252 : decode cX50_init 252 = .ok (.iload_n 2, 1) := dk_28 (dk_at dksX50_init_10 19 rfl rfl)
theorem dX50_init_253 : decode cX50_init 253 = .ok (.iconst 1, 1) := dk_4 (dk_at dksX50_init_10 20 rfl rfl)
theorem dX50_init_254 : decode cX50_init 254 = .ok (.iastore, 1) := dk_79 (dk_at dksX50_init_10 21 rfl rfl)
theorem dX50_init_255 : decode cX50_init 255 = .ok (.iinc 2 1, 3) := dk_132 2 1 (dk_at dksX50_init_11 0 rfl rfl)
theorem dX50_init_258 : decode cX50_init 258 = .ok (.goto (-16), 3) := dk_167 255 240 (dk_at dksX50_init_11 3 rfl rfl)
theorem dX50_init_261 : decode cX50_init 261 = .ok (.iconst 0, 1) := dk_3 (dk_at dksX50_init_11 6 rfl rfl)
theorem dX50_init_262 : decode cX50_init 262 = .ok (.istore_n 2, 1) := dk_61 (dk_at dksX50_init_11 7 rfl rfl)
theorem dX50_init_263 : decode cX50_init 263 = .ok (.iload_n 2, 1) := dk_28 (dk_at dksX50_init_11 8 rfl rfl)
theorem dX50_init_264 : decode cX50_init 264 = .ok (.bipush 18, 2) := dk_16 18 (dk_at dksX50_init_11 9 rfl rfl)
theorem dX50_init_266 : decode cX50_init 266 = .ok (.if_icmp .ge 23, 3) := dk_162 0 23 (dk_at dksX50_init_11 11 rfl rfl)
theorem dX50_init_269 : decode cX50_init 269 = .ok (.aload_n 0, 1) := dk_42 (dk_at dksX50_init_11 14 rfl rfl)
theorem dX50_init_270 : decode cX50_init 270 = .ok (.getfield 34, 3) := dk_180 0 34 (dk_at dksX50_init_11 15 rfl rfl)
theorem dX50_init_273 : decode cX50_init 273 = .ok (.iload_n 2, 1) := dk_28 (dk_at dksX50_init_11 18 rfl rfl)
theorem dX50_init_274 : decode cX50_init 274 = .ok (.iconst 1, 1) := dk_4 (dk_at dksX50_init_11 19 rfl rfl)
theorem dX50_init_275 : decode cX50_init 275 = .ok (.iastore, 1) := dk_79 (dk_at dksX50_init_11 20 rfl rfl)
theorem dX50_init_276 : decode cX50_init 276 = .ok (.aload_n 0, 1) := dk_42 (dk_at dksX50_init_11 21 rfl rfl)
theorem dX50_init_277 : decode cX50_init 277 = .ok (.getfield 19, 3) := dk_180 0 19 (dk_at dksX50_init_12 0 rfl rfl)
theorem dX50_init_280 : decode cX50_init 280 = .ok (.iload_n 2, 1) := dk_28 (dk_at dksX50_init_12 3 rfl rfl)
theorem dX50_init_281 : decode cX50_init 281 = .ok (.iconst (-1), 1) := dk_2 (dk_at dksX50_init_12 4 rfl rfl)
theorem dX50_init_282 : decode cX50_init 282 = .ok (.iastore, 1) := dk_79 (dk_at dksX50_init_12 5 rfl rfl)
theorem dX50_init_283 : decode cX50_init 283 = .ok (.iinc 2 1, 3) := dk_132 2 1 (dk_at dksX50_init_12 6 rfl rfl)
theorem dX50_init_286 : decode cX50_init 286 = .ok (.goto (-23), 3) := dk_167 255 233 (dk_at dksX50_init_12 9 rfl rfl)
theorem dX50_init_289 : decode cX50_init 289 = .ok (.aload_n 0, 1) := dk_42 (dk_at dksX50_init_12 12 rfl rfl)
theorem dX50_init_290 : decode cX50_init 290 = .ok (.getfield 51, 3) := dk_180 0 51 (dk_at dksX50_init_12 13 rfl rfl)
theorem dX50_init_293 : decode cX50_init 293 = .ok (.iconst 0, 1) := dk_3 (dk_at dksX50_init_12 16 rfl rfl)
theorem dX50_init_294 : decode cX50_init 294 = .ok (.ldc2_w 100, 3) := dk_20 0 100 (dk_at dksX50_init_12 17 rfl rfl)
theorem dX50_init_297 : decode cX50_init 297 = .ok (.lastore, 1) := dk_80 (dk_at dksX50_init_12 20 rfl rfl)
theorem dX50_init_298 : decode cX50_init 298 = .ok (.aload_n 0, 1) := dk_42 (dk_at dksX50_init_12 21 rfl rfl)
theorem dX50_init_299 : decode cX50_init 299 = .ok (.getfield 51, 3) := dk_180 0 51 (dk_at dksX50_init_13 0 rfl rfl)
theorem dX50_init_302 : decode cX50_init 302 = .ok (.iconst 1, 1) := dk_4 (dk_at dksX50_init_13 3 rfl rfl)
theorem dX50_init_303 : decode cX50_init 303 = .ok (.ldc2_w 102, 3) := dk_20 0 102 (dk_at dksX50_init_13 4 rfl rfl)
theorem dX50_init_306 : decode cX50_init 306 = .ok (.lastore, 1) := dk_80 (dk_at dksX50_init_13 7 rfl rfl)
theorem dX50_init_307 : decode cX50_init 307 = .ok (.aload_n 0, 1) := dk_42 (dk_at dksX50_init_13 8 rfl rfl)
theorem dX50_init_308 : decode cX50_init 308 = .ok (.getfield 51, 3) := dk_180 0 51 (dk_at dksX50_init_13 9 rfl rfl)
theorem dX50_init_311 : decode cX50_init 311 = .ok (.iconst 2, 1) := dk_5 (dk_at dksX50_init_13 12 rfl rfl)
theorem dX50_init_312 : decode cX50_init 312 = .ok (.ldc2_w 104, 3) := dk_20 0 104 (dk_at dksX50_init_13 13 rfl rfl)
theorem dX50_init_315 : decode cX50_init 315 = .ok (.lastore, 1) := dk_80 (dk_at dksX50_init_13 16 rfl rfl)
theorem dX50_init_316 : decode cX50_init 316 = .ok (.aload_n 0, 1) := dk_42 (dk_at dksX50_init_13 17 rfl rfl)
theorem dX50_init_317 : decode cX50_init 317 = .ok (.getfield 51, 3) := dk_180 0 51 (dk_at dksX50_init_13 18 rfl rfl)
theorem dX50_init_320 : decode cX50_init 320 = .ok (.iconst 3, 1) := dk_6 (dk_at dksX50_init_13 21 rfl rfl)
theorem dX50_init_321 : decode cX50_init 321 = .ok (.ldc2_w 106, 3) := dk_20 0 106 (dk_at dksX50_init_14 0 rfl rfl)
theorem dX50_init_324 : decode cX50_init 324 = .ok (.lastore, 1) := dk_80 (dk_at dksX50_init_14 3 rfl rfl)
theorem dX50_init_325 : decode cX50_init 325 = .ok (.aload_n 0, 1) := dk_42 (dk_at dksX50_init_14 4 rfl rfl)
theorem dX50_init_326 : decode cX50_init 326 = .ok (.getfield 51, 3) := dk_180 0 51 (dk_at dksX50_init_14 5 rfl rfl)
theorem dX50_init_329 : decode cX50_init 329 = .ok (.iconst 4, 1) := dk_7 (dk_at dksX50_init_14 8 rfl rfl)
theorem dX50_init_330 : decode cX50_init 330 = .ok (.ldc2_w 108, 3) := dk_20 0 108 (dk_at dksX50_init_14 9 rfl rfl)
theorem dX50_init_333 : decode cX50_init 333 = .ok (.lastore, 1) := dk_80 (dk_at dksX50_init_14 12 rfl rfl)
theorem dX50_init_334 : decode cX50_init 334 = .ok (.aload_n 0, 1) := dk_42 (dk_at dksX50_init_14 13 rfl rfl)
theorem dX50_init_335 : decode cX50_init 335 = .ok (.getfield 51, 3) := dk_180 0 51 (dk_at dksX50_init_14 14 rfl rfl)
theorem dX50_init_338 : decode cX50_init 338 = .ok (.iconst 5, 1) := dk_8 (dk_at dksX50_init_14 17 rfl rfl)
theorem dX50_init_339 : decode cX50_init 339 = .ok (.ldc2_w 110, 3) := dk_20 0 110 (dk_at dksX50_init_14 18 rfl rfl)
theorem dX50_init_342 : decode cX50_init 342 = .ok (.lastore, 1) := dk_80 (dk_at dksX50_init_14 21 rfl rfl)
theorem dX50_init_343 : decode cX50_init 343 = .ok (.aload_n 0, 1) := dk_42 (dk_at dksX50_init_14 22 rfl rfl)
theorem dX50_init_344 : decode cX50_init 344 = .ok (.getfield 51, 3) := dk_180 0 51 (dk_at dksX50_init_15 0 rfl rfl)
theorem dX50_init_347 : decode cX50_init 347 = .ok (.bipush 6, 2) := dk_16 6 (dk_at dksX50_init_15 3 rfl rfl)
theorem dX50_init_349 : decode cX50_init 349 = .ok (.ldc2_w 112, 3) := dk_20 0 112 (dk_at dksX50_init_15 5 rfl rfl)
theorem dX50_init_352 : decode cX50_init 352 = .ok (.lastore, 1) := dk_80 (dk_at dksX50_init_15 8 rfl rfl)
theorem dX50_init_353 : decode cX50_init 353 = .ok (.aload_n 0, 1) := dk_42 (dk_at dksX50_init_15 9 rfl rfl)
theorem dX50_init_354 : decode cX50_init 354 = .ok (.getfield 51, 3) := dk_180 0 51 (dk_at dksX50_init_15 10 rfl rfl)
theorem dX50_init_357 : decode cX50_init 357 = .ok (.bipush 7, 2) := dk_16 7 (dk_at dksX50_init_15 13 rfl rfl)
theorem dX50_init_359 : decode cX50_init 359 = .ok (.ldc2_w 114, 3) := dk_20 0 114 (dk_at dksX50_init_15 15 rfl rfl)
theorem dX50_init_362 : decode cX50_init 362 = .ok (.lastore, 1) := dk_80 (dk_at dksX50_init_15 18 rfl rfl)
theorem dX50_init_363 : decode cX50_init 363 = .ok (.return_, 1) := dk_177 (dk_at dksX50_init_15 19 rfl rfl)
abbrev cX50_feed : ByteArray := prog_64_method_15_code
def yX50_feed : MethodName := ⟨RX50, "feed", "(IIJ)Z"⟩
def dkwX50_feed_2 : List UInt8 := [182, 0, 122, 4, 172]
abbrev dktX50_feed_2 : List UInt8 := dkwX50_feed_2 ++ []
def dkwX50_feed_1 : List UInt8 := [20, 0, 148, 148, 158, 0, 5, 3, 172, 42, 180, 0, 37, 6, 27, 104, 28, 96, 33, 136, 79, 42]
abbrev dktX50_feed_1 : List UInt8 := dkwX50_feed_1 ++ dktX50_feed_2
def dkwX50_feed_0 : List UInt8 := [42, 27, 182, 0, 125, 153, 0, 25, 42, 28, 182, 0, 133, 153, 0, 17, 33, 9, 148, 155, 0, 11, 33]
abbrev dktX50_feed_0 : List UInt8 := dkwX50_feed_0 ++ dktX50_feed_1
theorem dksX50_feed_0 : cX50_feed.data.toList.drop 0 = dktX50_feed_0 := by decide +kernel
theorem dksX50_feed_1 : cX50_feed.data.toList.drop 23 = dktX50_feed_1 := dk_seg dksX50_feed_0 23 rfl rfl
theorem dksX50_feed_2 : cX50_feed.data.toList.drop 45 = dktX50_feed_2 := dk_seg dksX50_feed_1 22 rfl rfl
theorem dX50_feed_0 : decode cX50_feed 0 = .ok (.aload_n 0, 1) := dk_42 (dk_at dksX50_feed_0 0 rfl rfl)
theorem dX50_feed_1 : decode cX50_feed 1 = .ok (.iload_n 1, 1) := dk_27 (dk_at dksX50_feed_0 1 rfl rfl)
theorem dX50_feed_2 : decode cX50_feed 2 = .ok (.invokevirtual 125, 3) := dk_182 0 125 (dk_at dksX50_feed_0 2 rfl rfl)
theorem dX50_feed_5 : decode cX50_feed 5 = .ok (.ifCond .eq 25, 3) := dk_153 0 25 (dk_at dksX50_feed_0 5 rfl rfl)
theorem dX50_feed_8 : decode cX50_feed 8 = .ok (.aload_n 0, 1) := dk_42 (dk_at dksX50_feed_0 8 rfl rfl)
theorem dX50_feed_9 : decode cX50_feed 9 = .ok (.iload_n 2, 1) := dk_28 (dk_at dksX50_feed_0 9 rfl rfl)
theorem dX50_feed_10 : decode cX50_feed 10 = .ok (.invokevirtual 133, 3) := dk_182 0 133 (dk_at dksX50_feed_0 10 rfl rfl)
theorem dX50_feed_13 : decode cX50_feed 13 = .ok (.ifCond .eq 17, 3) := dk_153 0 17 (dk_at dksX50_feed_0 13 rfl rfl)
theorem dX50_feed_16 : decode cX50_feed 16 = .ok (.lload_n 3, 1) := dk_33 (dk_at dksX50_feed_0 16 rfl rfl)
theorem dX50_feed_17 : decode cX50_feed 17 = .ok (.lconst 0, 1) := dk_9 (dk_at dksX50_feed_0 17 rfl rfl)
theorem dX50_feed_18 : decode cX50_feed 18 = .ok (.lcmp, 1) := dk_148 (dk_at dksX50_feed_0 18 rfl rfl)
theorem dX50_feed_19 : decode cX50_feed 19 = .ok (.ifCond .lt 11, 3) := dk_155 0 11 (dk_at dksX50_feed_0 19 rfl rfl)
theorem dX50_feed_22 : decode cX50_feed 22 = .ok (.lload_n 3, 1) := dk_33 (dk_at dksX50_feed_0 22 rfl rfl)
theorem dX50_feed_23 : decode cX50_feed 23 = .ok (.ldc2_w 148, 3) := dk_20 0 148 (dk_at dksX50_feed_1 0 rfl rfl)
theorem dX50_feed_26 : decode cX50_feed 26 = .ok (.lcmp, 1) := dk_148 (dk_at dksX50_feed_1 3 rfl rfl)
theorem dX50_feed_27 : decode cX50_feed 27 = .ok (.ifCond .le 5, 3) := dk_158 0 5 (dk_at dksX50_feed_1 4 rfl rfl)
theorem dX50_feed_30 : decode cX50_feed 30 = .ok (.iconst 0, 1) := dk_3 (dk_at dksX50_feed_1 7 rfl rfl)
theorem dX50_feed_31 : decode cX50_feed 31 = .ok (.ireturn, 1) := dk_172 (dk_at dksX50_feed_1 8 rfl rfl)
theorem dX50_feed_32 : decode cX50_feed 32 = .ok (.aload_n 0, 1) := dk_42 (dk_at dksX50_feed_1 9 rfl rfl)
theorem dX50_feed_33 : decode cX50_feed 33 = .ok (.getfield 37, 3) := dk_180 0 37 (dk_at dksX50_feed_1 10 rfl rfl)
theorem dX50_feed_36 : decode cX50_feed 36 = .ok (.iconst 3, 1) := dk_6 (dk_at dksX50_feed_1 13 rfl rfl)
theorem dX50_feed_37 : decode cX50_feed 37 = .ok (.iload_n 1, 1) := dk_27 (dk_at dksX50_feed_1 14 rfl rfl)
theorem dX50_feed_38 : decode cX50_feed 38 = .ok (.imul, 1) := dk_104 (dk_at dksX50_feed_1 15 rfl rfl)
theorem dX50_feed_39 : decode cX50_feed 39 = .ok (.iload_n 2, 1) := dk_28 (dk_at dksX50_feed_1 16 rfl rfl)
theorem dX50_feed_40 : decode cX50_feed 40 = .ok (.iadd, 1) := dk_96 (dk_at dksX50_feed_1 17 rfl rfl)
theorem dX50_feed_41 : decode cX50_feed 41 = .ok (.lload_n 3, 1) := dk_33 (dk_at dksX50_feed_1 18 rfl rfl)
theorem dX50_feed_42 : decode cX50_feed 42 = .ok (.l2i, 1) := dk_136 (dk_at dksX50_feed_1 19 rfl rfl)
theorem dX50_feed_43 : decode cX50_feed 43 = .ok (.iastore, 1) := dk_79 (dk_at dksX50_feed_1 20 rfl rfl)
theorem dX50_feed_44 : decode cX50_feed 44 = .ok (.aload_n 0, 1) := dk_42 (dk_at dksX50_feed_1 21 rfl rfl)
theorem dX50_feed_45 : decode cX50_feed 45 = .ok (.invokevirtual 122, 3) := dk_182 0 122 (dk_at dksX50_feed_2 0 rfl rfl)
theorem dX50_feed_48 : decode cX50_feed 48 = .ok (.iconst 1, 1) := dk_4 (dk_at dksX50_feed_2 3 rfl rfl)
theorem dX50_feed_49 : decode cX50_feed 49 = .ok (.ireturn, 1) := dk_172 (dk_at dksX50_feed_2 4 rfl rfl)
abbrev cX50_isMachine : ByteArray := prog_64_method_4_code
def yX50_isMachine : MethodName := ⟨RX50, "isMachine", "(I)Z"⟩
def dkwX50_isMachine_0 : List UInt8 := [27, 155, 0, 17, 27, 42, 180, 0, 7, 3, 46, 162, 0, 7, 4, 167, 0, 4, 3, 172]
abbrev dktX50_isMachine_0 : List UInt8 := dkwX50_isMachine_0 ++ []
theorem dksX50_isMachine_0 : cX50_isMachine.data.toList.drop 0 = dktX50_isMachine_0 := by decide +kernel
theorem dX50_isMachine_0 : decode cX50_isMachine 0 = .ok (.iload_n 1, 1) := dk_27 (dk_at dksX50_isMachine_0 0 rfl rfl)
theorem dX50_isMachine_1 : decode cX50_isMachine 1 = .ok (.ifCond .lt 17, 3) := dk_155 0 17 (dk_at dksX50_isMachine_0 1 rfl rfl)
theorem dX50_isMachine_4 : decode cX50_isMachine 4 = .ok (.iload_n 1, 1) := dk_27 (dk_at dksX50_isMachine_0 4 rfl rfl)
theorem dX50_isMachine_5 : decode cX50_isMachine 5 = .ok (.aload_n 0, 1) := dk_42 (dk_at dksX50_isMachine_0 5 rfl rfl)
theorem dX50_isMachine_6 : decode cX50_isMachine 6 = .ok (.getfield 7, 3) := dk_180 0 7 (dk_at dksX50_isMachine_0 6 rfl rfl)
theorem dX50_isMachine_9 : decode cX50_isMachine 9 = .ok (.iconst 0, 1) := dk_3 (dk_at dksX50_isMachine_0 9 rfl rfl)
theorem dX50_isMachine_10 : decode cX50_isMachine 10 = .ok (.iaload, 1) := dk_46 (dk_at dksX50_isMachine_0 10 rfl rfl)
theorem dX50_isMachine_11 : decode cX50_isMachine 11 = .ok (.if_icmp .ge 7, 3) := dk_162 0 7 (dk_at dksX50_isMachine_0 11 rfl rfl)
theorem dX50_isMachine_14 : decode cX50_isMachine 14 = .ok (.iconst 1, 1) := dk_4 (dk_at dksX50_isMachine_0 14 rfl rfl)
theorem dX50_isMachine_15 : decode cX50_isMachine 15 = .ok (.goto 4, 3) := dk_167 0 4 (dk_at dksX50_isMachine_0 15 rfl rfl)
theorem dX50_isMachine_18 : decode cX50_isMachine 18 = .ok (.iconst 0, 1) := dk_3 (dk_at dksX50_isMachine_0 18 rfl rfl)
theorem dX50_isMachine_19 : decode cX50_isMachine 19 = .ok (.ireturn, 1) := dk_172 (dk_at dksX50_isMachine_0 19 rfl rfl)
abbrev cX50_isKind : ByteArray := prog_64_method_5_code
def yX50_isKind : MethodName := ⟨RX50, "isKind", "(I)Z"⟩
def dkwX50_isKind_0 : List UInt8 := [27, 155, 0, 15, 27, 42, 180, 0, 97, 162, 0, 7, 4, 167, 0, 4, 3, 172]
abbrev dktX50_isKind_0 : List UInt8 := dkwX50_isKind_0 ++ []
theorem dksX50_isKind_0 : cX50_isKind.data.toList.drop 0 = dktX50_isKind_0 := by decide +kernel
theorem dX50_isKind_0 : decode cX50_isKind 0 = .ok (.iload_n 1, 1) := dk_27 (dk_at dksX50_isKind_0 0 rfl rfl)
theorem dX50_isKind_1 : decode cX50_isKind 1 = .ok (.ifCond .lt 15, 3) := dk_155 0 15 (dk_at dksX50_isKind_0 1 rfl rfl)
theorem dX50_isKind_4 : decode cX50_isKind 4 = .ok (.iload_n 1, 1) := dk_27 (dk_at dksX50_isKind_0 4 rfl rfl)
theorem dX50_isKind_5 : decode cX50_isKind 5 = .ok (.aload_n 0, 1) := dk_42 (dk_at dksX50_isKind_0 5 rfl rfl)
theorem dX50_isKind_6 : decode cX50_isKind 6 = .ok (.getfield 97, 3) := dk_180 0 97 (dk_at dksX50_isKind_0 6 rfl rfl)
theorem dX50_isKind_9 : decode cX50_isKind 9 = .ok (.if_icmp .ge 7, 3) := dk_162 0 7 (dk_at dksX50_isKind_0 9 rfl rfl)
theorem dX50_isKind_12 : decode cX50_isKind 12 = .ok (.iconst 1, 1) := dk_4 (dk_at dksX50_isKind_0 12 rfl rfl)
theorem dX50_isKind_13 : decode cX50_isKind 13 = .ok (.goto 4, 3) := dk_167 0 4 (dk_at dksX50_isKind_0 13 rfl rfl)
theorem dX50_isKind_16 : decode cX50_isKind 16 = .ok (.iconst 0, 1) := dk_3 (dk_at dksX50_isKind_0 16 rfl rfl)
theorem dX50_isKind_17 : decode cX50_isKind 17 = .ok (.ireturn, 1) := dk_172 (dk_at dksX50_isKind_0 17 rfl rfl)
abbrev cX50_touch : ByteArray := prog_64_method_6_code
def yX50_touch : MethodName := ⟨RX50, "touch", "()V"⟩
def dkwX50_touch_0 : List UInt8 := [42, 3, 181, 0, 118, 42, 180, 0, 94, 3, 92, 46, 4, 96, 79, 177]
abbrev dktX50_touch_0 : List UInt8 := dkwX50_touch_0 ++ []
theorem dksX50_touch_0 : cX50_touch.data.toList.drop 0 = dktX50_touch_0 := by decide +kernel
theorem dX50_touch_0 : decode cX50_touch 0 = .ok (.aload_n 0, 1) := dk_42 (dk_at dksX50_touch_0 0 rfl rfl)
theorem dX50_touch_1 : decode cX50_touch 1 = .ok (.iconst 0, 1) := dk_3 (dk_at dksX50_touch_0 1 rfl rfl)
theorem dX50_touch_2 : decode cX50_touch 2 = .ok (.putfield 118, 3) := dk_181 0 118 (dk_at dksX50_touch_0 2 rfl rfl)
theorem dX50_touch_5 : decode cX50_touch 5 = .ok (.aload_n 0, 1) := dk_42 (dk_at dksX50_touch_0 5 rfl rfl)
theorem dX50_touch_6 : decode cX50_touch 6 = .ok (.getfield 94, 3) := dk_180 0 94 (dk_at dksX50_touch_0 6 rfl rfl)
theorem dX50_touch_9 : decode cX50_touch 9 = .ok (.iconst 0, 1) := dk_3 (dk_at dksX50_touch_0 9 rfl rfl)
theorem dX50_touch_10 : decode cX50_touch 10 = .ok (.dup2, 1) := dk_92 (dk_at dksX50_touch_0 10 rfl rfl)
theorem dX50_touch_11 : decode cX50_touch 11 = .ok (.iaload, 1) := dk_46 (dk_at dksX50_touch_0 11 rfl rfl)
theorem dX50_touch_12 : decode cX50_touch 12 = .ok (.iconst 1, 1) := dk_4 (dk_at dksX50_touch_0 12 rfl rfl)
theorem dX50_touch_13 : decode cX50_touch 13 = .ok (.iadd, 1) := dk_96 (dk_at dksX50_touch_0 13 rfl rfl)
theorem dX50_touch_14 : decode cX50_touch 14 = .ok (.iastore, 1) := dk_79 (dk_at dksX50_touch_0 14 rfl rfl)
theorem dX50_touch_15 : decode cX50_touch 15 = .ok (.return_, 1) := dk_177 (dk_at dksX50_touch_0 15 rfl rfl)
abbrev cX50_solve : ByteArray := prog_64_method_51_code
def yX50_solve : MethodName := ⟨RX50, "solve", "()I"⟩
def dkwX50_solve_2 : List UInt8 := [167, 0, 6, 4, 27, 96, 172]
abbrev dktX50_solve_2 : List UInt8 := dkwX50_solve_2 ++ []
def dkwX50_solve_1 : List UInt8 := [42, 42, 180, 1, 4, 181, 0, 118, 42, 180, 1, 4, 153, 0, 7, 42, 182, 1, 7, 27, 156, 0, 7, 3]
abbrev dktX50_solve_1 : List UInt8 := dkwX50_solve_1 ++ dktX50_solve_2
def dkwX50_solve_0 : List UInt8 := [42, 3, 182, 0, 242, 42, 3, 182, 1, 1, 60, 42, 27, 156, 0, 7, 4, 167, 0, 4, 3, 181, 1, 4]
abbrev dktX50_solve_0 : List UInt8 := dkwX50_solve_0 ++ dktX50_solve_1
theorem dksX50_solve_0 : cX50_solve.data.toList.drop 0 = dktX50_solve_0 := by decide +kernel
theorem dksX50_solve_1 : cX50_solve.data.toList.drop 24 = dktX50_solve_1 := dk_seg dksX50_solve_0 24 rfl rfl
theorem dksX50_solve_2 : cX50_solve.data.toList.drop 48 = dktX50_solve_2 := dk_seg dksX50_solve_1 24 rfl rfl
theorem dX50_solve_0 : decode cX50_solve 0 = .ok (.aload_n 0, 1) := dk_42 (dk_at dksX50_solve_0 0 rfl rfl)
theorem dX50_solve_1 : decode cX50_solve 1 = .ok (.iconst 0, 1) := dk_3 (dk_at dksX50_solve_0 1 rfl rfl)
theorem dX50_solve_2 : decode cX50_solve 2 = .ok (.invokevirtual 242, 3) := dk_182 0 242 (dk_at dksX50_solve_0 2 rfl rfl)
theorem dX50_solve_5 : decode cX50_solve 5 = .ok (.aload_n 0, 1) := dk_42 (dk_at dksX50_solve_0 5 rfl rfl)
theorem dX50_solve_6 : decode cX50_solve 6 = .ok (.iconst 0, 1) := dk_3 (dk_at dksX50_solve_0 6 rfl rfl)
theorem dX50_solve_7 : decode cX50_solve 7 = .ok (.invokevirtual 257, 3) := dk_182 1 1 (dk_at dksX50_solve_0 7 rfl rfl)
theorem dX50_solve_10 : decode cX50_solve 10 = .ok (.istore_n 1, 1) := dk_60 (dk_at dksX50_solve_0 10 rfl rfl)
theorem dX50_solve_11 : decode cX50_solve 11 = .ok (.aload_n 0, 1) := dk_42 (dk_at dksX50_solve_0 11 rfl rfl)
theorem dX50_solve_12 : decode cX50_solve 12 = .ok (.iload_n 1, 1) := dk_27 (dk_at dksX50_solve_0 12 rfl rfl)
theorem dX50_solve_13 : decode cX50_solve 13 = .ok (.ifCond .ge 7, 3) := dk_156 0 7 (dk_at dksX50_solve_0 13 rfl rfl)
theorem dX50_solve_16 : decode cX50_solve 16 = .ok (.iconst 1, 1) := dk_4 (dk_at dksX50_solve_0 16 rfl rfl)
theorem dX50_solve_17 : decode cX50_solve 17 = .ok (.goto 4, 3) := dk_167 0 4 (dk_at dksX50_solve_0 17 rfl rfl)
theorem dX50_solve_20 : decode cX50_solve 20 = .ok (.iconst 0, 1) := dk_3 (dk_at dksX50_solve_0 20 rfl rfl)
theorem dX50_solve_21 : decode cX50_solve 21 = .ok (.putfield 260, 3) := dk_181 1 4 (dk_at dksX50_solve_0 21 rfl rfl)
theorem dX50_solve_24 : decode cX50_solve 24 = .ok (.aload_n 0, 1) := dk_42 (dk_at dksX50_solve_1 0 rfl rfl)
theorem dX50_solve_25 : decode cX50_solve 25 = .ok (.aload_n 0, 1) := dk_42 (dk_at dksX50_solve_1 1 rfl rfl)
theorem dX50_solve_26 : decode cX50_solve 26 = .ok (.getfield 260, 3) := dk_180 1 4 (dk_at dksX50_solve_1 2 rfl rfl)
theorem dX50_solve_29 : decode cX50_solve 29 = .ok (.putfield 118, 3) := dk_181 0 118 (dk_at dksX50_solve_1 5 rfl rfl)
theorem dX50_solve_32 : decode cX50_solve 32 = .ok (.aload_n 0, 1) := dk_42 (dk_at dksX50_solve_1 8 rfl rfl)
theorem dX50_solve_33 : decode cX50_solve 33 = .ok (.getfield 260, 3) := dk_180 1 4 (dk_at dksX50_solve_1 9 rfl rfl)
theorem dX50_solve_36 : decode cX50_solve 36 = .ok (.ifCond .eq 7, 3) := dk_153 0 7 (dk_at dksX50_solve_1 12 rfl rfl)
theorem dX50_solve_39 : decode cX50_solve 39 = .ok (.aload_n 0, 1) := dk_42 (dk_at dksX50_solve_1 15 rfl rfl)
theorem dX50_solve_40 : decode cX50_solve 40 = .ok (.invokevirtual 263, 3) := dk_182 1 7 (dk_at dksX50_solve_1 16 rfl rfl)
theorem dX50_solve_43 : decode cX50_solve 43 = .ok (.iload_n 1, 1) := dk_27 (dk_at dksX50_solve_1 19 rfl rfl)
theorem dX50_solve_44 : decode cX50_solve 44 = .ok (.ifCond .ge 7, 3) := dk_156 0 7 (dk_at dksX50_solve_1 20 rfl rfl)
theorem dX50_solve_47 : decode cX50_solve 47 = .ok (.iconst 0, 1) := dk_3 (dk_at dksX50_solve_1 23 rfl rfl)
theorem dX50_solve_48 : decode cX50_solve 48 = .ok (.goto 6, 3) := dk_167 0 6 (dk_at dksX50_solve_2 0 rfl rfl)
theorem dX50_solve_51 : decode cX50_solve 51 = .ok (.iconst 1, 1) := dk_4 (dk_at dksX50_solve_2 3 rfl rfl)
theorem dX50_solve_52 : decode cX50_solve 52 = .ok (.iload_n 1, 1) := dk_27 (dk_at dksX50_solve_2 4 rfl rfl)
theorem dX50_solve_53 : decode cX50_solve 53 = .ok (.iadd, 1) := dk_96 (dk_at dksX50_solve_2 5 rfl rfl)
theorem dX50_solve_54 : decode cX50_solve 54 = .ok (.ireturn, 1) := dk_172 (dk_at dksX50_solve_2 6 rfl rfl)
abbrev cX50_layOut : ByteArray := prog_64_method_21_code
def yX50_layOut : MethodName := ⟨RX50, "layOut", "(I)V"⟩
def dkwX50_layOut_3 : List UInt8 := [162, 0, 11, 42, 27, 29, 21, 4, 182, 0, 160, 132, 2, 1, 167, 255, 204, 177]
abbrev dktX50_layOut_3 : List UInt8 := dkwX50_layOut_3 ++ []
def dkwX50_layOut_2 : List UInt8 := [62, 28, 6, 112, 54, 4, 29, 42, 180, 0, 7, 27, 46, 162, 0, 20, 21, 4, 42, 180, 0, 97]
abbrev dktX50_layOut_2 : List UInt8 := dkwX50_layOut_2 ++ dktX50_layOut_3
def dkwX50_layOut_1 : List UInt8 := [132, 2, 1, 167, 255, 233, 3, 61, 28, 16, 9, 162, 0, 52, 42, 180, 0, 54, 28, 10, 80, 28, 6, 108]
abbrev dktX50_layOut_1 : List UInt8 := dkwX50_layOut_1 ++ dktX50_layOut_2
def dkwX50_layOut_0 : List UInt8 := [3, 61, 28, 16, 81, 162, 0, 23, 42, 180, 0, 57, 28, 9, 80, 42, 180, 0, 60, 28, 9, 80]
abbrev dktX50_layOut_0 : List UInt8 := dkwX50_layOut_0 ++ dktX50_layOut_1
theorem dksX50_layOut_0 : cX50_layOut.data.toList.drop 0 = dktX50_layOut_0 := by decide +kernel
theorem dksX50_layOut_1 : cX50_layOut.data.toList.drop 22 = dktX50_layOut_1 := dk_seg dksX50_layOut_0 22 rfl rfl
theorem dksX50_layOut_2 : cX50_layOut.data.toList.drop 46 = dktX50_layOut_2 := dk_seg dksX50_layOut_1 24 rfl rfl
theorem dksX50_layOut_3 : cX50_layOut.data.toList.drop 68 = dktX50_layOut_3 := dk_seg dksX50_layOut_2 22 rfl rfl
theorem dX50_layOut_0 : decode cX50_layOut 0 = .ok (.iconst 0, 1) := dk_3 (dk_at dksX50_layOut_0 0 rfl rfl)
theorem dX50_layOut_1 : decode cX50_layOut 1 = .ok (.istore_n 2, 1) := dk_61 (dk_at dksX50_layOut_0 1 rfl rfl)
theorem dX50_layOut_2 : decode cX50_layOut 2 = .ok (.iload_n 2, 1) := dk_28 (dk_at dksX50_layOut_0 2 rfl rfl)
theorem dX50_layOut_3 : decode cX50_layOut 3 = .ok (.bipush 81, 2) := dk_16 81 (dk_at dksX50_layOut_0 3 rfl rfl)
theorem dX50_layOut_5 : decode cX50_layOut 5 = .ok (.if_icmp .ge 23, 3) := dk_162 0 23 (dk_at dksX50_layOut_0 5 rfl rfl)
theorem dX50_layOut_8 : decode cX50_layOut 8 = .ok (.aload_n 0, 1) := dk_42 (dk_at dksX50_layOut_0 8 rfl rfl)
theorem dX50_layOut_9 : decode cX50_layOut 9 = .ok (.getfield 57, 3) := dk_180 0 57 (dk_at dksX50_layOut_0 9 rfl rfl)
theorem dX50_layOut_12 : decode cX50_layOut 12 = .ok (.iload_n 2, 1) := dk_28 (dk_at dksX50_layOut_0 12 rfl rfl)
theorem dX50_layOut_13 : decode cX50_layOut 13 = .ok (.lconst 0, 1) := dk_9 (dk_at dksX50_layOut_0 13 rfl rfl)
theorem dX50_layOut_14 : decode cX50_layOut 14 = .ok (.lastore, 1) := dk_80 (dk_at dksX50_layOut_0 14 rfl rfl)
theorem dX50_layOut_15 : decode cX50_layOut 15 = .ok (.aload_n 0, 1) := dk_42 (dk_at dksX50_layOut_0 15 rfl rfl)
theorem dX50_layOut_16 : decode cX50_layOut 16 = .ok (.getfield 60, 3) := dk_180 0 60 (dk_at dksX50_layOut_0 16 rfl rfl)
theorem dX50_layOut_19 : decode cX50_layOut 19 = .ok (.iload_n 2, 1) := dk_28 (dk_at dksX50_layOut_0 19 rfl rfl)
theorem dX50_layOut_20 : decode cX50_layOut 20 = .ok (.lconst 0, 1) := dk_9 (dk_at dksX50_layOut_0 20 rfl rfl)
theorem dX50_layOut_21 : decode cX50_layOut 21 = .ok (.lastore, 1) := dk_80 (dk_at dksX50_layOut_0 21 rfl rfl)
theorem dX50_layOut_22 : decode cX50_layOut 22 = .ok (.iinc 2 1, 3) := dk_132 2 1 (dk_at dksX50_layOut_1 0 rfl rfl)
theorem dX50_layOut_25 : decode cX50_layOut 25 = .ok (.goto (-23), 3) := dk_167 255 233 (dk_at dksX50_layOut_1 3 rfl rfl)
theorem dX50_layOut_28 : decode cX50_layOut 28 = .ok (.iconst 0, 1) := dk_3 (dk_at dksX50_layOut_1 6 rfl rfl)
theorem dX50_layOut_29 : decode cX50_layOut 29 = .ok (.istore_n 2, 1) := dk_61 (dk_at dksX50_layOut_1 7 rfl rfl)
theorem dX50_layOut_30 : decode cX50_layOut 30 = .ok (.iload_n 2, 1) := dk_28 (dk_at dksX50_layOut_1 8 rfl rfl)
theorem dX50_layOut_31 : decode cX50_layOut 31 = .ok (.bipush 9, 2) := dk_16 9 (dk_at dksX50_layOut_1 9 rfl rfl)
theorem dX50_layOut_33 : decode cX50_layOut 33 = .ok (.if_icmp .ge 52, 3) := dk_162 0 52 (dk_at dksX50_layOut_1 11 rfl rfl)
theorem dX50_layOut_36 : decode cX50_layOut 36 = .ok (.aload_n 0, 1) := dk_42 (dk_at dksX50_layOut_1 14 rfl rfl)
theorem dX50_layOut_37 : decode cX50_layOut 37 = .ok (.getfield 54, 3) := dk_180 0 54 (dk_at dksX50_layOut_1 15 rfl rfl)
theorem dX50_layOut_40 : decode cX50_layOut 40 = .ok (.iload_n 2, 1) := dk_28 (dk_at dksX50_layOut_1 18 rfl rfl)
theorem dX50_layOut_41 : decode cX50_layOut 41 = .ok (.lconst 1, 1) := dk_10 (dk_at dksX50_layOut_1 19 rfl rfl)
theorem dX50_layOut_42 : decode cX50_layOut 42 = .ok (.lastore, 1) := dk_80 (dk_at dksX50_layOut_1 20 rfl rfl)
theorem dX50_layOut_43 : decode cX50_layOut 43 = .ok (.iload_n 2, 1) := dk_28 (dk_at dksX50_layOut_1 21 rfl rfl)
theorem dX50_layOut_44 : decode cX50_layOut 44 = .ok (.iconst 3, 1) := dk_6 (dk_at dksX50_layOut_1 22 rfl rfl)
theorem dX50_layOut_45 : decode cX50_layOut 45 = .ok (.idiv, 1) := dk_108 (dk_at dksX50_layOut_1 23 rfl rfl)
theorem dX50_layOut_46 : decode cX50_layOut 46 = .ok (.istore_n 3, 1) := dk_62 (dk_at dksX50_layOut_2 0 rfl rfl)
theorem dX50_layOut_47 : decode cX50_layOut 47 = .ok (.iload_n 2, 1) := dk_28 (dk_at dksX50_layOut_2 1 rfl rfl)
theorem dX50_layOut_48 : decode cX50_layOut 48 = .ok (.iconst 3, 1) := dk_6 (dk_at dksX50_layOut_2 2 rfl rfl)
theorem dX50_layOut_49 : decode cX50_layOut 49 = .ok (.irem, 1) := dk_112 (dk_at dksX50_layOut_2 3 rfl rfl)
theorem dX50_layOut_50 : decode cX50_layOut 50 = .ok (.istore 4, 2) := dk_54 4 (dk_at dksX50_layOut_2 4 rfl rfl)
theorem dX50_layOut_52 : decode cX50_layOut 52 = .ok (.iload_n 3, 1) := dk_29 (dk_at dksX50_layOut_2 6 rfl rfl)
theorem dX50_layOut_53 : decode cX50_layOut 53 = .ok (.aload_n 0, 1) := dk_42 (dk_at dksX50_layOut_2 7 rfl rfl)
theorem dX50_layOut_54 : decode cX50_layOut 54 = .ok (.getfield 7, 3) := dk_180 0 7 (dk_at dksX50_layOut_2 8 rfl rfl)
theorem dX50_layOut_57 : decode cX50_layOut 57 = .ok (.iload_n 1, 1) := dk_27 (dk_at dksX50_layOut_2 11 rfl rfl)
theorem dX50_layOut_58 : decode cX50_layOut 58 = .ok (.iaload, 1) := dk_46 (dk_at dksX50_layOut_2 12 rfl rfl)
theorem dX50_layOut_59 : decode cX50_layOut 59 = .ok (.if_icmp .ge 20, 3) := dk_162 0 20 (dk_at dksX50_layOut_2 13 rfl rfl)
theorem dX50_layOut_62 : decode cX50_layOut 62 = .ok (.iload 4, 2) := dk_21 4 (dk_at dksX50_layOut_2 16 rfl rfl)
theorem dX50_layOut_64 : decode cX50_layOut 64 = .ok (.aload_n 0, 1) := dk_42 (dk_at dksX50_layOut_2 18 rfl rfl)
theorem dX50_layOut_65 : decode cX50_layOut 65 = .ok (.getfield 97, 3) := dk_180 0 97 (dk_at dksX50_layOut_2 19 rfl rfl)
theorem dX50_layOut_68 : decode cX50_layOut 68 = .ok (.if_icmp .ge 11, 3) := dk_162 0 11 (dk_at dksX50_layOut_3 0 rfl rfl)
theorem dX50_layOut_71 : decode cX50_layOut 71 = .ok (.aload_n 0, 1) := dk_42 (dk_at dksX50_layOut_3 3 rfl rfl)
theorem dX50_layOut_72 : decode cX50_layOut 72 = .ok (.iload_n 1, 1) := dk_27 (dk_at dksX50_layOut_3 4 rfl rfl)
theorem dX50_layOut_73 : decode cX50_layOut 73 = .ok (.iload_n 3, 1) := dk_29 (dk_at dksX50_layOut_3 5 rfl rfl)
theorem dX50_layOut_74 : decode cX50_layOut 74 = .ok (.iload 4, 2) := dk_21 4 (dk_at dksX50_layOut_3 6 rfl rfl)
theorem dX50_layOut_76 : decode cX50_layOut 76 = .ok (.invokevirtual 160, 3) := dk_182 0 160 (dk_at dksX50_layOut_3 8 rfl rfl)
theorem dX50_layOut_79 : decode cX50_layOut 79 = .ok (.iinc 2 1, 3) := dk_132 2 1 (dk_at dksX50_layOut_3 11 rfl rfl)
theorem dX50_layOut_82 : decode cX50_layOut 82 = .ok (.goto (-52), 3) := dk_167 255 204 (dk_at dksX50_layOut_3 14 rfl rfl)
theorem dX50_layOut_85 : decode cX50_layOut 85 = .ok (.return_, 1) := dk_177 (dk_at dksX50_layOut_3 17 rfl rfl)
abbrev cX50_layNode : ByteArray := prog_64_method_22_code
def yX50_layNode : MethodName := ⟨RX50, "layNode", "(III)V"⟩
def dkwX50_layNode_11 : List UInt8 := [21, 4, 96, 47, 97, 80, 132, 16, 1, 167, 255, 203, 132, 14, 1, 167, 255, 79, 177]
abbrev dktX50_layNode_11 : List UInt8 := dkwX50_layNode_11 ++ []
def dkwX50_layNode_10 : List UInt8 := [21, 16, 96, 104, 21, 4, 96, 92, 47, 42, 180, 0, 60, 16, 9, 6, 21, 14, 104, 21, 16, 96, 104]
abbrev dktX50_layNode_10 : List UInt8 := dkwX50_layNode_10 ++ dktX50_layNode_11
def dkwX50_layNode_9 : List UInt8 := [3, 54, 16, 21, 16, 6, 162, 0, 53, 21, 15, 155, 0, 48, 42, 180, 0, 57, 16, 9, 6, 21, 15, 104]
abbrev dktX50_layNode_9 : List UInt8 := dkwX50_layNode_9 ++ dktX50_layNode_10
def dkwX50_layNode_8 : List UInt8 := [182, 0, 164, 105, 97, 80, 42, 180, 0, 19, 16, 9, 27, 104, 6, 28, 104, 96, 21, 14, 96, 46, 54, 15]
abbrev dktX50_layNode_8 : List UInt8 := dkwX50_layNode_8 ++ dktX50_layNode_9
def dkwX50_layNode_7 : List UInt8 := [21, 14, 104, 21, 9, 96, 104, 21, 4, 96, 92, 47, 22, 5, 22, 10, 105, 42, 27, 28, 21, 9, 21, 14]
abbrev dktX50_layNode_7 : List UInt8 := dkwX50_layNode_7 ++ dktX50_layNode_8
def dkwX50_layNode_6 : List UInt8 := [28, 29, 21, 14, 182, 0, 164, 105, 97, 80, 22, 5, 9, 148, 158, 0, 40, 42, 180, 0, 60, 16, 9, 6]
abbrev dktX50_layNode_6 : List UInt8 := dkwX50_layNode_6 ++ dktX50_layNode_7
def dkwX50_layNode_5 : List UInt8 := [16, 9, 6, 21, 14, 104, 29, 96, 104, 21, 4, 96, 92, 47, 22, 7, 22, 5, 101, 22, 12, 105, 42, 27]
abbrev dktX50_layNode_5 : List UInt8 := dkwX50_layNode_5 ++ dktX50_layNode_6
def dkwX50_layNode_4 : List UInt8 := [105, 80, 3, 54, 14, 21, 14, 42, 180, 0, 16, 6, 27, 104, 28, 96, 46, 162, 0, 168, 42, 180, 0, 60]
abbrev dktX50_layNode_4 : List UInt8 := dkwX50_layNode_4 ++ dktX50_layNode_5
def dkwX50_layNode_3 : List UInt8 := [21, 9, 182, 0, 156, 167, 0, 4, 10, 55, 12, 42, 180, 0, 54, 21, 4, 22, 7, 22, 10, 105, 22, 12]
abbrev dktX50_layNode_3 : List UInt8 := dkwX50_layNode_3 ++ dktX50_layNode_4
def dkwX50_layNode_2 : List UInt8 := [96, 46, 54, 9, 42, 27, 28, 29, 182, 0, 156, 55, 10, 22, 5, 9, 148, 158, 0, 14, 42, 27, 28]
abbrev dktX50_layNode_2 : List UInt8 := dkwX50_layNode_2 ++ dktX50_layNode_3
def dkwX50_layNode_1 : List UInt8 := [180, 0, 34, 16, 9, 27, 104, 21, 4, 96, 46, 133, 55, 7, 42, 180, 0, 28, 16, 9, 27, 104, 21, 4]
abbrev dktX50_layNode_1 : List UInt8 := dkwX50_layNode_1 ++ dktX50_layNode_2
def dkwX50_layNode_0 : List UInt8 := [6, 28, 104, 29, 96, 54, 4, 42, 180, 0, 31, 16, 9, 27, 104, 21, 4, 96, 46, 133, 55, 5, 42]
abbrev dktX50_layNode_0 : List UInt8 := dkwX50_layNode_0 ++ dktX50_layNode_1
theorem dksX50_layNode_0 : cX50_layNode.data.toList.drop 0 = dktX50_layNode_0 := by decide +kernel
theorem dksX50_layNode_1 : cX50_layNode.data.toList.drop 23 = dktX50_layNode_1 := dk_seg dksX50_layNode_0 23 rfl rfl
theorem dksX50_layNode_2 : cX50_layNode.data.toList.drop 47 = dktX50_layNode_2 := dk_seg dksX50_layNode_1 24 rfl rfl
theorem dksX50_layNode_3 : cX50_layNode.data.toList.drop 70 = dktX50_layNode_3 := dk_seg dksX50_layNode_2 23 rfl rfl
theorem dksX50_layNode_4 : cX50_layNode.data.toList.drop 94 = dktX50_layNode_4 := dk_seg dksX50_layNode_3 24 rfl rfl
theorem dksX50_layNode_5 : cX50_layNode.data.toList.drop 118 = dktX50_layNode_5 := dk_seg dksX50_layNode_4 24 rfl rfl
theorem dksX50_layNode_6 : cX50_layNode.data.toList.drop 142 = dktX50_layNode_6 := dk_seg dksX50_layNode_5 24 rfl rfl
theorem dksX50_layNode_7 : cX50_layNode.data.toList.drop 166 = dktX50_layNode_7 := dk_seg dksX50_layNode_6 24 rfl rfl
theorem dksX50_layNode_8 : cX50_layNode.data.toList.drop 190 = dktX50_layNode_8 := dk_seg dksX50_layNode_7 24 rfl rfl
theorem dksX50_layNode_9 : cX50_layNode.data.toList.drop 214 = dktX50_layNode_9 := dk_seg dksX50_layNode_8 24 rfl rfl
theorem dksX50_layNode_10 : cX50_layNode.data.toList.drop 238 = dktX50_layNode_10 := dk_seg dksX50_layNode_9 24 rfl rfl
theorem dksX50_layNode_11 : cX50_layNode.data.toList.drop 261 = dktX50_layNode_11 := dk_seg dksX50_layNode_10 23 rfl rfl
theorem dX50_layNode_0 : decode cX50_layNode 0 = .ok (.iconst 3, 1) := dk_6 (dk_at dksX50_layNode_0 0 rfl rfl)
theorem dX50_layNode_1 : decode cX50_layNode 1 = .ok (.iload_n 2, 1) := dk_28 (dk_at dksX50_layNode_0 1 rfl rfl)
theorem dX50_layNode_2 : decode cX50_layNode 2 = .ok (.imul, 1) := dk_104 (dk_at dksX50_layNode_0 2 rfl rfl)
theorem dX50_layNode_3 : decode cX50_layNode 3 = .ok (.iload_n 3, 1) := dk_29 (dk_at dksX50_layNode_0 3 rfl rfl)
theorem dX50_layNode_4 : decode cX50_layNode 4 = .ok (.iadd, 1) := dk_96 (dk_at dksX50_layNode_0 4 rfl rfl)
theorem dX50_layNode_5 : decode cX50_layNode 5 = .ok (.istore 4, 2) := dk_54 4 (dk_at dksX50_layNode_0 5 rfl rfl)
theorem dX50_layNode_7 : decode cX50_layNode 7 = .ok (.aload_n 0, 1) := dk_42 (dk_at dksX50_layNode_0 7 rfl rfl)
theorem dX50_layNode_8 : decode cX50_layNode 8 = .ok (.getfield 31, 3) := dk_180 0 31 (dk_at dksX50_layNode_0 8 rfl rfl)
theorem dX50_layNode_11 : decode cX50_layNode 11 = .ok (.bipush 9, 2) := dk_16 9 (dk_at dksX50_layNode_0 11 rfl rfl)
theorem dX50_layNode_13 : decode cX50_layNode 13 = .ok (.iload_n 1, 1) := dk_27 (dk_at dksX50_layNode_0 13 rfl rfl)
theorem dX50_layNode_14 : decode cX50_layNode 14 = .ok (.imul, 1) := dk_104 (dk_at dksX50_layNode_0 14 rfl rfl)
theorem dX50_layNode_15 : decode cX50_layNode 15 = .ok (.iload 4, 2) := dk_21 4 (dk_at dksX50_layNode_0 15 rfl rfl)
theorem dX50_layNode_17 : decode cX50_layNode 17 = .ok (.iadd, 1) := dk_96 (dk_at dksX50_layNode_0 17 rfl rfl)
theorem dX50_layNode_18 : decode cX50_layNode 18 = .ok (.iaload, 1) := dk_46 (dk_at dksX50_layNode_0 18 rfl rfl)
theorem dX50_layNode_19 : decode cX50_layNode 19 = .ok (.i2l, 1) := dk_133 (dk_at dksX50_layNode_0 19 rfl rfl)
theorem dX50_layNode_20 : decode cX50_layNode 20 = .ok (.lstore 5, 2) := dk_55 5 (dk_at dksX50_layNode_0 20 rfl rfl)
theorem dX50_layNode_22 : decode cX50_layNode 22 = .ok (.aload_n 0, 1) := dk_42 (dk_at dksX50_layNode_0 22 rfl rfl)
theorem dX50_layNode_23 : decode cX50_layNode 23 = .ok (.getfield 34, 3) := dk_180 0 34 (dk_at dksX50_layNode_1 0 rfl rfl)
theorem dX50_layNode_26 : decode cX50_layNode 26 = .ok (.bipush 9, 2) := dk_16 9 (dk_at dksX50_layNode_1 3 rfl rfl)
theorem dX50_layNode_28 : decode cX50_layNode 28 = .ok (.iload_n 1, 1) := dk_27 (dk_at dksX50_layNode_1 5 rfl rfl)
theorem dX50_layNode_29 : decode cX50_layNode 29 = .ok (.imul, 1) := dk_104 (dk_at dksX50_layNode_1 6 rfl rfl)
theorem dX50_layNode_30 : decode cX50_layNode 30 = .ok (.iload 4, 2) := dk_21 4 (dk_at dksX50_layNode_1 7 rfl rfl)
theorem dX50_layNode_32 : decode cX50_layNode 32 = .ok (.iadd, 1) := dk_96 (dk_at dksX50_layNode_1 9 rfl rfl)
theorem dX50_layNode_33 : decode cX50_layNode 33 = .ok (.iaload, 1) := dk_46 (dk_at dksX50_layNode_1 10 rfl rfl)
theorem dX50_layNode_34 : decode cX50_layNode 34 = .ok (.i2l, 1) := dk_133 (dk_at dksX50_layNode_1 11 rfl rfl)
theorem dX50_layNode_35 : decode cX50_layNode 35 = .ok (.lstore 7, 2) := dk_55 7 (dk_at dksX50_layNode_1 12 rfl rfl)
theorem dX50_layNode_37 : decode cX50_layNode 37 = .ok (.aload_n 0, 1) := dk_42 (dk_at dksX50_layNode_1 14 rfl rfl)
theorem dX50_layNode_38 : decode cX50_layNode 38 = .ok (.getfield 28, 3) := dk_180 0 28 (dk_at dksX50_layNode_1 15 rfl rfl)
theorem dX50_layNode_41 : decode cX50_layNode 41 = .ok (.bipush 9, 2) := dk_16 9 (dk_at dksX50_layNode_1 18 rfl rfl)
theorem dX50_layNode_43 : decode cX50_layNode 43 = .ok (.iload_n 1, 1) := dk_27 (dk_at dksX50_layNode_1 20 rfl rfl)
theorem dX50_layNode_44 : decode cX50_layNode 44 = .ok (.imul, 1) := dk_104 (dk_at dksX50_layNode_1 21 rfl rfl)
theorem dX50_layNode_45 : decode cX50_layNode 45 = .ok (.iload 4, 2) := dk_21 4 (dk_at dksX50_layNode_1 22 rfl rfl)
theorem dX50_layNode_47 : decode cX50_layNode 47 = .ok (.iadd, 1) := dk_96 (dk_at dksX50_layNode_2 0 rfl rfl)
theorem dX50_layNode_48 : decode cX50_layNode 48 = .ok (.iaload, 1) := dk_46 (dk_at dksX50_layNode_2 1 rfl rfl)
theorem dX50_layNode_49 : decode cX50_layNode 49 = .ok (.istore 9, 2) := dk_54 9 (dk_at dksX50_layNode_2 2 rfl rfl)
theorem dX50_layNode_51 : decode cX50_layNode 51 = .ok (.aload_n 0, 1) := dk_42 (dk_at dksX50_layNode_2 4 rfl rfl)
theorem dX50_layNode_52 : decode cX50_layNode 52 = .ok (.iload_n 1, 1) := dk_27 (dk_at dksX50_layNode_2 5 rfl rfl)
theorem dX50_layNode_53 : decode cX50_layNode 53 = .ok (.iload_n 2, 1) := dk_28 (dk_at dksX50_layNode_2 6 rfl rfl)
theorem dX50_layNode_54 : decode cX50_layNode 54 = .ok (.iload_n 3, 1) := dk_29 (dk_at dksX50_layNode_2 7 rfl rfl)
theorem dX50_layNode_55 : decode cX50_layNode 55 = .ok (.invokevirtual 156, 3) := dk_182 0 156 (dk_at dksX50_layNode_2 8 rfl rfl)
theorem dX50_layNode_58 : decode cX50_layNode 58 = .ok (.lstore 10, 2) := dk_55 10 (dk_at dksX50_layNode_2 11 rfl rfl)
theorem dX50_layNode_60 : decode cX50_layNode 60 = .ok (.lload 5, 2) := dk_22 5 (dk_at dksX50_layNode_2 13 rfl rfl)
theorem dX50_layNode_62 : decode cX50_layNode 62 = .ok (.lconst 0, 1) := dk_9 (dk_at dksX50_layNode_2 15 rfl rfl)
theorem dX50_layNode_63 : decode cX50_layNode 63 = .ok (.lcmp, 1) := dk_148 (dk_at dksX50_layNode_2 16 rfl rfl)
theorem dX50_layNode_64 : decode cX50_layNode 64 = .ok (.ifCond .le 14, 3) := dk_158 0 14 (dk_at dksX50_layNode_2 17 rfl rfl)
theorem dX50_layNode_67 : decode cX50_layNode 67 = .ok (.aload_n 0, 1) := dk_42 (dk_at dksX50_layNode_2 20 rfl rfl)
theorem dX50_layNode_68 : decode cX50_layNode 68 = .ok (.iload_n 1, 1) := dk_27 (dk_at dksX50_layNode_2 21 rfl rfl)
theorem dX50_layNode_69 : decode cX50_layNode 69 = .ok (.iload_n 2, 1) := dk_28 (dk_at dksX50_layNode_2 22 rfl rfl)
theorem dX50_layNode_70 : decode cX50_layNode 70 = .ok (.iload 9, 2) := dk_21 9 (dk_at dksX50_layNode_3 0 rfl rfl)
theorem dX50_layNode_72 : decode cX50_layNode 72 = .ok (.invokevirtual 156, 3) := dk_182 0 156 (dk_at dksX50_layNode_3 2 rfl rfl)
theorem dX50_layNode_75 : decode cX50_layNode 75 = .ok (.goto 4, 3) := dk_167 0 4 (dk_at dksX50_layNode_3 5 rfl rfl)
theorem dX50_layNode_78 : decode cX50_layNode 78 = .ok (.lconst 1, 1) := dk_10 (dk_at dksX50_layNode_3 8 rfl rfl)
theorem dX50_layNode_79 : decode cX50_layNode 79 = .ok (.lstore 12, 2) := dk_55 12 (dk_at dksX50_layNode_3 9 rfl rfl)
theorem dX50_layNode_81 : decode cX50_layNode 81 = .ok (.aload_n 0, 1) := dk_42 (dk_at dksX50_layNode_3 11 rfl rfl)
theorem dX50_layNode_82 : decode cX50_layNode 82 = .ok (.getfield 54, 3) := dk_180 0 54 (dk_at dksX50_layNode_3 12 rfl rfl)
theorem dX50_layNode_85 : decode cX50_layNode 85 = .ok (.iload 4, 2) := dk_21 4 (dk_at dksX50_layNode_3 15 rfl rfl)
theorem dX50_layNode_87 : decode cX50_layNode 87 = .ok (.lload 7, 2) := dk_22 7 (dk_at dksX50_layNode_3 17 rfl rfl)
theorem dX50_layNode_89 : decode cX50_layNode 89 = .ok (.lload 10, 2) := dk_22 10 (dk_at dksX50_layNode_3 19 rfl rfl)
theorem dX50_layNode_91 : decode cX50_layNode 91 = .ok (.lmul, 1) := dk_105 (dk_at dksX50_layNode_3 21 rfl rfl)
theorem dX50_layNode_92 : decode cX50_layNode 92 = .ok (.lload 12, 2) := dk_22 12 (dk_at dksX50_layNode_3 22 rfl rfl)
theorem dX50_layNode_94 : decode cX50_layNode 94 = .ok (.lmul, 1) := dk_105 (dk_at dksX50_layNode_4 0 rfl rfl)
theorem dX50_layNode_95 : decode cX50_layNode 95 = .ok (.lastore, 1) := dk_80 (dk_at dksX50_layNode_4 1 rfl rfl)
theorem dX50_layNode_96 : decode cX50_layNode 96 = .ok (.iconst 0, 1) := dk_3 (dk_at dksX50_layNode_4 2 rfl rfl)
theorem dX50_layNode_97 : decode cX50_layNode 97 = .ok (.istore 14, 2) := dk_54 14 (dk_at dksX50_layNode_4 3 rfl rfl)
theorem dX50_layNode_99 : decode cX50_layNode 99 = .ok (.iload 14, 2) := dk_21 14 (dk_at dksX50_layNode_4 5 rfl rfl)
theorem dX50_layNode_101 : decode cX50_layNode 101 = .ok (.aload_n 0, 1) := dk_42 (dk_at dksX50_layNode_4 7 rfl rfl)
theorem dX50_layNode_102 : decode cX50_layNode 102 = .ok (.getfield 16, 3) := dk_180 0 16 (dk_at dksX50_layNode_4 8 rfl rfl)
theorem dX50_layNode_105 : decode cX50_layNode 105 = .ok (.iconst 3, 1) := dk_6 (dk_at dksX50_layNode_4 11 rfl rfl)
theorem dX50_layNode_106 : decode cX50_layNode 106 = .ok (.iload_n 1, 1) := dk_27 (dk_at dksX50_layNode_4 12 rfl rfl)
theorem dX50_layNode_107 : decode cX50_layNode 107 = .ok (.imul, 1) := dk_104 (dk_at dksX50_layNode_4 13 rfl rfl)
theorem dX50_layNode_108 : decode cX50_layNode 108 = .ok (.iload_n 2, 1) := dk_28 (dk_at dksX50_layNode_4 14 rfl rfl)
theorem dX50_layNode_109 : decode cX50_layNode 109 = .ok (.iadd, 1) := dk_96 (dk_at dksX50_layNode_4 15 rfl rfl)
theorem dX50_layNode_110 : decode cX50_layNode 110 = .ok (.iaload, 1) := dk_46 (dk_at dksX50_layNode_4 16 rfl rfl)
theorem dX50_layNode_111 : decode cX50_layNode 111 = .ok (.if_icmp .ge 168, 3) := dk_162 0 168 (dk_at dksX50_layNode_4 17 rfl rfl)
theorem dX50_layNode_114 : decode cX50_layNode 114 = .ok (.aload_n 0, 1) := dk_42 (dk_at dksX50_layNode_4 20 rfl rfl)
theorem dX50_layNode_115 : decode cX50_layNode 115 = .ok (.getfield 60, 3) := dk_180 0 60 (dk_at dksX50_layNode_4 21 rfl rfl)
theorem dX50_layNode_118 : decode cX50_layNode 118 = .ok (.bipush 9, 2) := dk_16 9 (dk_at dksX50_layNode_5 0 rfl rfl)
theorem dX50_layNode_120 : decode cX50_layNode 120 = .ok (.iconst 3, 1) := dk_6 (dk_at dksX50_layNode_5 2 rfl rfl)
theorem dX50_layNode_121 : decode cX50_layNode 121 = .ok (.iload 14, 2) := dk_21 14 (dk_at dksX50_layNode_5 3 rfl rfl)
theorem dX50_layNode_123 : decode cX50_layNode 123 = .ok (.imul, 1) := dk_104 (dk_at dksX50_layNode_5 5 rfl rfl)
theorem dX50_layNode_124 : decode cX50_layNode 124 = .ok (.iload_n 3, 1) := dk_29 (dk_at dksX50_layNode_5 6 rfl rfl)
theorem dX50_layNode_125 : decode cX50_layNode 125 = .ok (.iadd, 1) := dk_96 (dk_at dksX50_layNode_5 7 rfl rfl)
theorem dX50_layNode_126 : decode cX50_layNode 126 = .ok (.imul, 1) := dk_104 (dk_at dksX50_layNode_5 8 rfl rfl)
theorem dX50_layNode_127 : decode cX50_layNode 127 = .ok (.iload 4, 2) := dk_21 4 (dk_at dksX50_layNode_5 9 rfl rfl)
theorem dX50_layNode_129 : decode cX50_layNode 129 = .ok (.iadd, 1) := dk_96 (dk_at dksX50_layNode_5 11 rfl rfl)
theorem dX50_layNode_130 : decode cX50_layNode 130 = .ok (.dup2, 1) := dk_92 (dk_at dksX50_layNode_5 12 rfl rfl)
theorem dX50_layNode_131 : decode cX50_layNode 131 = .ok (.laload, 1) := dk_47 (dk_at dksX50_layNode_5 13 rfl rfl)
theorem dX50_layNode_132 : decode cX50_layNode 132 = .ok (.lload 7, 2) := dk_22 7 (dk_at dksX50_layNode_5 14 rfl rfl)
theorem dX50_layNode_134 : decode cX50_layNode 134 = .ok (.lload 5, 2) := dk_22 5 (dk_at dksX50_layNode_5 16 rfl rfl)
theorem dX50_layNode_136 : decode cX50_layNode 136 = .ok (.lsub, 1) := dk_101 (dk_at dksX50_layNode_5 18 rfl rfl)
theorem dX50_layNode_137 : decode cX50_layNode 137 = .ok (.lload 12, 2) := dk_22 12 (dk_at dksX50_layNode_5 19 rfl rfl)
theorem dX50_layNode_139 : decode cX50_layNode 139 = .ok (.lmul, 1) := dk_105 (dk_at dksX50_layNode_5 21 rfl rfl)
theorem dX50_layNode_140 : decode cX50_layNode 140 = .ok (.aload_n 0, 1) := dk_42 (dk_at dksX50_layNode_5 22 rfl rfl)
theorem dX50_layNode_141 : decode cX50_layNode 141 = .ok (.iload_n 1, 1) := dk_27 (dk_at dksX50_layNode_5 23 rfl rfl)
theorem dX50_layNode_142 : decode cX50_layNode 142 = .ok (.iload_n 2, 1) := dk_28 (dk_at dksX50_layNode_6 0 rfl rfl)
theorem dX50_layNode_143 : decode cX50_layNode 143 = .ok (.iload_n 3, 1) := dk_29 (dk_at dksX50_layNode_6 1 rfl rfl)
theorem dX50_layNode_144 : decode cX50_layNode 144 = .ok (.iload 14, 2) := dk_21 14 (dk_at dksX50_layNode_6 2 rfl rfl)
theorem dX50_layNode_146 : decode cX50_layNode 146 = .ok (.invokevirtual 164, 3) := dk_182 0 164 (dk_at dksX50_layNode_6 4 rfl rfl)
theorem dX50_layNode_149 : decode cX50_layNode 149 = .ok (.lmul, 1) := dk_105 (dk_at dksX50_layNode_6 7 rfl rfl)
theorem dX50_layNode_150 : decode cX50_layNode 150 = .ok (.ladd, 1) := dk_97 (dk_at dksX50_layNode_6 8 rfl rfl)
theorem dX50_layNode_151 : decode cX50_layNode 151 = .ok (.lastore, 1) := dk_80 (dk_at dksX50_layNode_6 9 rfl rfl)
theorem dX50_layNode_152 : decode cX50_layNode 152 = .ok (.lload 5, 2) := dk_22 5 (dk_at dksX50_layNode_6 10 rfl rfl)
theorem dX50_layNode_154 : decode cX50_layNode 154 = .ok (.lconst 0, 1) := dk_9 (dk_at dksX50_layNode_6 12 rfl rfl)
theorem dX50_layNode_155 : decode cX50_layNode 155 = .ok (.lcmp, 1) := dk_148 (dk_at dksX50_layNode_6 13 rfl rfl)
theorem dX50_layNode_156 : decode cX50_layNode 156 = .ok (.ifCond .le 40, 3) := dk_158 0 40 (dk_at dksX50_layNode_6 14 rfl rfl)
theorem dX50_layNode_159 : decode cX50_layNode 159 = .ok (.aload_n 0, 1) := dk_42 (dk_at dksX50_layNode_6 17 rfl rfl)
theorem dX50_layNode_160 : decode cX50_layNode 160 = .ok (.getfield 60, 3) := dk_180 0 60 (dk_at dksX50_layNode_6 18 rfl rfl)
theorem dX50_layNode_163 : decode cX50_layNode 163 = .ok (.bipush 9, 2) := dk_16 9 (dk_at dksX50_layNode_6 21 rfl rfl)
theorem dX50_layNode_165 : decode cX50_layNode 165 = .ok (.iconst 3, 1) := dk_6 (dk_at dksX50_layNode_6 23 rfl rfl)
theorem dX50_layNode_166 : decode cX50_layNode 166 = .ok (.iload 14, 2) := dk_21 14 (dk_at dksX50_layNode_7 0 rfl rfl)
theorem dX50_layNode_168 : decode cX50_layNode 168 = .ok (.imul, 1) := dk_104 (dk_at dksX50_layNode_7 2 rfl rfl)
theorem dX50_layNode_169 : decode cX50_layNode 169 = .ok (.iload 9, 2) := dk_21 9 (dk_at dksX50_layNode_7 3 rfl rfl)
theorem dX50_layNode_171 : decode cX50_layNode 171 = .ok (.iadd, 1) := dk_96 (dk_at dksX50_layNode_7 5 rfl rfl)
theorem dX50_layNode_172 : decode cX50_layNode 172 = .ok (.imul, 1) := dk_104 (dk_at dksX50_layNode_7 6 rfl rfl)
theorem dX50_layNode_173 : decode cX50_layNode 173 = .ok (.iload 4, 2) := dk_21 4 (dk_at dksX50_layNode_7 7 rfl rfl)
theorem dX50_layNode_175 : decode cX50_layNode 175 = .ok (.iadd, 1) := dk_96 (dk_at dksX50_layNode_7 9 rfl rfl)
theorem dX50_layNode_176 : decode cX50_layNode 176 = .ok (.dup2, 1) := dk_92 (dk_at dksX50_layNode_7 10 rfl rfl)
theorem dX50_layNode_177 : decode cX50_layNode 177 = .ok (.laload, 1) := dk_47 (dk_at dksX50_layNode_7 11 rfl rfl)
theorem dX50_layNode_178 : decode cX50_layNode 178 = .ok (.lload 5, 2) := dk_22 5 (dk_at dksX50_layNode_7 12 rfl rfl)
theorem dX50_layNode_180 : decode cX50_layNode 180 = .ok (.lload 10, 2) := dk_22 10 (dk_at dksX50_layNode_7 14 rfl rfl)
theorem dX50_layNode_182 : decode cX50_layNode 182 = .ok (.lmul, 1) := dk_105 (dk_at dksX50_layNode_7 16 rfl rfl)
theorem dX50_layNode_183 : decode cX50_layNode 183 = .ok (.aload_n 0, 1) := dk_42 (dk_at dksX50_layNode_7 17 rfl rfl)
theorem dX50_layNode_184 : decode cX50_layNode 184 = .ok (.iload_n 1, 1) := dk_27 (dk_at dksX50_layNode_7 18 rfl rfl)
theorem dX50_layNode_185 : decode cX50_layNode 185 = .ok (.iload_n 2, 1) := dk_28 (dk_at dksX50_layNode_7 19 rfl rfl)
theorem dX50_layNode_186 : decode cX50_layNode 186 = .ok (.iload 9, 2) := dk_21 9 (dk_at dksX50_layNode_7 20 rfl rfl)
theorem dX50_layNode_188 : decode cX50_layNode 188 = .ok (.iload 14, 2) := dk_21 14 (dk_at dksX50_layNode_7 22 rfl rfl)
theorem dX50_layNode_190 : decode cX50_layNode 190 = .ok (.invokevirtual 164, 3) := dk_182 0 164 (dk_at dksX50_layNode_8 0 rfl rfl)
theorem dX50_layNode_193 : decode cX50_layNode 193 = .ok (.lmul, 1) := dk_105 (dk_at dksX50_layNode_8 3 rfl rfl)
theorem dX50_layNode_194 : decode cX50_layNode 194 = .ok (.ladd, 1) := dk_97 (dk_at dksX50_layNode_8 4 rfl rfl)
theorem dX50_layNode_195 : decode cX50_layNode 195 = .ok (.lastore, 1) := dk_80 (dk_at dksX50_layNode_8 5 rfl rfl)
theorem dX50_layNode_196 : decode cX50_layNode 196 = .ok (.aload_n 0, 1) := dk_42 (dk_at dksX50_layNode_8 6 rfl rfl)
theorem dX50_layNode_197 : decode cX50_layNode 197 = .ok (.getfield 19, 3) := dk_180 0 19 (dk_at dksX50_layNode_8 7 rfl rfl)
theorem dX50_layNode_200 : decode cX50_layNode 200 = .ok (.bipush 9, 2) := dk_16 9 (dk_at dksX50_layNode_8 10 rfl rfl)
theorem dX50_layNode_202 : decode cX50_layNode 202 = .ok (.iload_n 1, 1) := dk_27 (dk_at dksX50_layNode_8 12 rfl rfl)
theorem dX50_layNode_203 : decode cX50_layNode 203 = .ok (.imul, 1) := dk_104 (dk_at dksX50_layNode_8 13 rfl rfl)
theorem dX50_layNode_204 : decode cX50_layNode 204 = .ok (.iconst 3, 1) := dk_6 (dk_at dksX50_layNode_8 14 rfl rfl)
theorem dX50_layNode_205 : decode cX50_layNode 205 = .ok (.iload_n 2, 1) := dk_28 (dk_at dksX50_layNode_8 15 rfl rfl)
theorem dX50_layNode_206 : decode cX50_layNode 206 = .ok (.imul, 1) := dk_104 (dk_at dksX50_layNode_8 16 rfl rfl)
theorem dX50_layNode_207 : decode cX50_layNode 207 = .ok (.iadd, 1) := dk_96 (dk_at dksX50_layNode_8 17 rfl rfl)
theorem dX50_layNode_208 : decode cX50_layNode 208 = .ok (.iload 14, 2) := dk_21 14 (dk_at dksX50_layNode_8 18 rfl rfl)
theorem dX50_layNode_210 : decode cX50_layNode 210 = .ok (.iadd, 1) := dk_96 (dk_at dksX50_layNode_8 20 rfl rfl)
theorem dX50_layNode_211 : decode cX50_layNode 211 = .ok (.iaload, 1) := dk_46 (dk_at dksX50_layNode_8 21 rfl rfl)
theorem dX50_layNode_212 : decode cX50_layNode 212 = .ok (.istore 15, 2) := dk_54 15 (dk_at dksX50_layNode_8 22 rfl rfl)
theorem dX50_layNode_214 : decode cX50_layNode 214 = .ok (.iconst 0, 1) := dk_3 (dk_at dksX50_layNode_9 0 rfl rfl)
theorem dX50_layNode_215 : decode cX50_layNode 215 = .ok (.istore 16, 2) := dk_54 16 (dk_at dksX50_layNode_9 1 rfl rfl)
theorem dX50_layNode_217 : decode cX50_layNode 217 = .ok (.iload 16, 2) := dk_21 16 (dk_at dksX50_layNode_9 3 rfl rfl)
theorem dX50_layNode_219 : decode cX50_layNode 219 = .ok (.iconst 3, 1) := dk_6 (dk_at dksX50_layNode_9 5 rfl rfl)
theorem dX50_layNode_220 : decode cX50_layNode 220 = .ok (.if_icmp .ge 53, 3) := dk_162 0 53 (dk_at dksX50_layNode_9 6 rfl rfl)
theorem dX50_layNode_223 : decode cX50_layNode 223 = .ok (.iload 15, 2) := dk_21 15 (dk_at dksX50_layNode_9 9 rfl rfl)
theorem dX50_layNode_225 : decode cX50_layNode 225 = .ok (.ifCond .lt 48, 3) := dk_155 0 48 (dk_at dksX50_layNode_9 11 rfl rfl)
theorem dX50_layNode_228 : decode cX50_layNode 228 = .ok (.aload_n 0, 1) := dk_42 (dk_at dksX50_layNode_9 14 rfl rfl)
theorem dX50_layNode_229 : decode cX50_layNode 229 = .ok (.getfield 57, 3) := dk_180 0 57 (dk_at dksX50_layNode_9 15 rfl rfl)
theorem dX50_layNode_232 : decode cX50_layNode 232 = .ok (.bipush 9, 2) := dk_16 9 (dk_at dksX50_layNode_9 18 rfl rfl)
theorem dX50_layNode_234 : decode cX50_layNode 234 = .ok (.iconst 3, 1) := dk_6 (dk_at dksX50_layNode_9 20 rfl rfl)
theorem dX50_layNode_235 : decode cX50_layNode 235 = .ok (.iload 15, 2) := dk_21 15 (dk_at dksX50_layNode_9 21 rfl rfl)
theorem dX50_layNode_237 : decode cX50_layNode 237 = .ok (.imul, 1) := dk_104 (dk_at dksX50_layNode_9 23 rfl rfl)
theorem dX50_layNode_238 : decode cX50_layNode 238 = .ok (.iload 16, 2) := dk_21 16 (dk_at dksX50_layNode_10 0 rfl rfl)
theorem dX50_layNode_240 : decode cX50_layNode 240 = .ok (.iadd, 1) := dk_96 (dk_at dksX50_layNode_10 2 rfl rfl)
theorem dX50_layNode_241 : decode cX50_layNode 241 = .ok (.imul, 1) := dk_104 (dk_at dksX50_layNode_10 3 rfl rfl)
theorem dX50_layNode_242 : decode cX50_layNode 242 = .ok (.iload 4, 2) := dk_21 4 (dk_at dksX50_layNode_10 4 rfl rfl)
theorem dX50_layNode_244 : decode cX50_layNode 244 = .ok (.iadd, 1) := dk_96 (dk_at dksX50_layNode_10 6 rfl rfl)
theorem dX50_layNode_245 : decode cX50_layNode 245 = .ok (.dup2, 1) := dk_92 (dk_at dksX50_layNode_10 7 rfl rfl)
theorem dX50_layNode_246 : decode cX50_layNode 246 = .ok (.laload, 1) := dk_47 (dk_at dksX50_layNode_10 8 rfl rfl)
theorem dX50_layNode_247 : decode cX50_layNode 247 = .ok (.aload_n 0, 1) := dk_42 (dk_at dksX50_layNode_10 9 rfl rfl)
theorem dX50_layNode_248 : decode cX50_layNode 248 = .ok (.getfield 60, 3) := dk_180 0 60 (dk_at dksX50_layNode_10 10 rfl rfl)
theorem dX50_layNode_251 : decode cX50_layNode 251 = .ok (.bipush 9, 2) := dk_16 9 (dk_at dksX50_layNode_10 13 rfl rfl)
theorem dX50_layNode_253 : decode cX50_layNode 253 = .ok (.iconst 3, 1) := dk_6 (dk_at dksX50_layNode_10 15 rfl rfl)
theorem dX50_layNode_254 : decode cX50_layNode 254 = .ok (.iload 14, 2) := dk_21 14 (dk_at dksX50_layNode_10 16 rfl rfl)
theorem dX50_layNode_256 : decode cX50_layNode 256 = .ok (.imul, 1) := dk_104 (dk_at dksX50_layNode_10 18 rfl rfl)
theorem dX50_layNode_257 : decode cX50_layNode 257 = .ok (.iload 16, 2) := dk_21 16 (dk_at dksX50_layNode_10 19 rfl rfl)
theorem dX50_layNode_259 : decode cX50_layNode 259 = .ok (.iadd, 1) := dk_96 (dk_at dksX50_layNode_10 21 rfl rfl)
theorem dX50_layNode_260 : decode cX50_layNode 260 = .ok (.imul, 1) := dk_104 (dk_at dksX50_layNode_10 22 rfl rfl)
theorem dX50_layNode_261 : decode cX50_layNode 261 = .ok (.iload 4, 2) := dk_21 4 (dk_at dksX50_layNode_11 0 rfl rfl)
theorem dX50_layNode_263 : decode cX50_layNode 263 = .ok (.iadd, 1) := dk_96 (dk_at dksX50_layNode_11 2 rfl rfl)
theorem dX50_layNode_264 : decode cX50_layNode 264 = .ok (.laload, 1) := dk_47 (dk_at dksX50_layNode_11 3 rfl rfl)
theorem dX50_layNode_265 : decode cX50_layNode 265 = .ok (.ladd, 1) := dk_97 (dk_at dksX50_layNode_11 4 rfl rfl)
theorem dX50_layNode_266 : decode cX50_layNode 266 = .ok (.lastore, 1) := dk_80 (dk_at dksX50_layNode_11 5 rfl rfl)
theorem dX50_layNode_267 : decode cX50_layNode 267 = .ok (.iinc 16 1, 3) := dk_132 16 1 (dk_at dksX50_layNode_11 6 rfl rfl)
theorem dX50_layNode_270 : decode cX50_layNode 270 = .ok (.goto (-53), 3) := dk_167 255 203 (dk_at dksX50_layNode_11 9 rfl rfl)
theorem dX50_layNode_273 : decode cX50_layNode 273 = .ok (.iinc 14 1, 3) := dk_132 14 1 (dk_at dksX50_layNode_11 12 rfl rfl)
theorem dX50_layNode_276 : decode cX50_layNode 276 = .ok (.goto (-177), 3) := dk_167 255 79 (dk_at dksX50_layNode_11 15 rfl rfl)
theorem dX50_layNode_279 : decode cX50_layNode 279 = .ok (.return_, 1) := dk_177 (dk_at dksX50_layNode_11 18 rfl rfl)
abbrev cX50_common : ByteArray := prog_64_method_19_code
def yX50_common : MethodName := ⟨RX50, "common", "(III)J"⟩
def dkwX50_common_1 : List UInt8 := [182, 0, 152, 46, 133, 105, 173]
abbrev dktX50_common_1 : List UInt8 := dkwX50_common_1 ++ []
def dkwX50_common_0 : List UInt8 := [42, 180, 0, 25, 42, 27, 28, 29, 3, 182, 0, 152, 46, 133, 42, 180, 0, 25, 42, 27, 28, 29, 4]
abbrev dktX50_common_0 : List UInt8 := dkwX50_common_0 ++ dktX50_common_1
theorem dksX50_common_0 : cX50_common.data.toList.drop 0 = dktX50_common_0 := by decide +kernel
theorem dksX50_common_1 : cX50_common.data.toList.drop 23 = dktX50_common_1 := dk_seg dksX50_common_0 23 rfl rfl
theorem dX50_common_0 : decode cX50_common 0 = .ok (.aload_n 0, 1) := dk_42 (dk_at dksX50_common_0 0 rfl rfl)
theorem dX50_common_1 : decode cX50_common 1 = .ok (.getfield 25, 3) := dk_180 0 25 (dk_at dksX50_common_0 1 rfl rfl)
theorem dX50_common_4 : decode cX50_common 4 = .ok (.aload_n 0, 1) := dk_42 (dk_at dksX50_common_0 4 rfl rfl)
theorem dX50_common_5 : decode cX50_common 5 = .ok (.iload_n 1, 1) := dk_27 (dk_at dksX50_common_0 5 rfl rfl)
theorem dX50_common_6 : decode cX50_common 6 = .ok (.iload_n 2, 1) := dk_28 (dk_at dksX50_common_0 6 rfl rfl)
theorem dX50_common_7 : decode cX50_common 7 = .ok (.iload_n 3, 1) := dk_29 (dk_at dksX50_common_0 7 rfl rfl)
theorem dX50_common_8 : decode cX50_common 8 = .ok (.iconst 0, 1) := dk_3 (dk_at dksX50_common_0 8 rfl rfl)
theorem dX50_common_9 : decode cX50_common 9 = .ok (.invokevirtual 152, 3) := dk_182 0 152 (dk_at dksX50_common_0 9 rfl rfl)
theorem dX50_common_12 : decode cX50_common 12 = .ok (.iaload, 1) := dk_46 (dk_at dksX50_common_0 12 rfl rfl)
theorem dX50_common_13 : decode cX50_common 13 = .ok (.i2l, 1) := dk_133 (dk_at dksX50_common_0 13 rfl rfl)
theorem dX50_common_14 : decode cX50_common 14 = .ok (.aload_n 0, 1) := dk_42 (dk_at dksX50_common_0 14 rfl rfl)
theorem dX50_common_15 : decode cX50_common 15 = .ok (.getfield 25, 3) := dk_180 0 25 (dk_at dksX50_common_0 15 rfl rfl)
theorem dX50_common_18 : decode cX50_common 18 = .ok (.aload_n 0, 1) := dk_42 (dk_at dksX50_common_0 18 rfl rfl)
theorem dX50_common_19 : decode cX50_common 19 = .ok (.iload_n 1, 1) := dk_27 (dk_at dksX50_common_0 19 rfl rfl)
theorem dX50_common_20 : decode cX50_common 20 = .ok (.iload_n 2, 1) := dk_28 (dk_at dksX50_common_0 20 rfl rfl)
theorem dX50_common_21 : decode cX50_common 21 = .ok (.iload_n 3, 1) := dk_29 (dk_at dksX50_common_0 21 rfl rfl)
theorem dX50_common_22 : decode cX50_common 22 = .ok (.iconst 1, 1) := dk_4 (dk_at dksX50_common_0 22 rfl rfl)
theorem dX50_common_23 : decode cX50_common 23 = .ok (.invokevirtual 152, 3) := dk_182 0 152 (dk_at dksX50_common_1 0 rfl rfl)
theorem dX50_common_26 : decode cX50_common 26 = .ok (.iaload, 1) := dk_46 (dk_at dksX50_common_1 3 rfl rfl)
theorem dX50_common_27 : decode cX50_common 27 = .ok (.i2l, 1) := dk_133 (dk_at dksX50_common_1 4 rfl rfl)
theorem dX50_common_28 : decode cX50_common 28 = .ok (.lmul, 1) := dk_105 (dk_at dksX50_common_1 5 rfl rfl)
theorem dX50_common_29 : decode cX50_common 29 = .ok (.lreturn, 1) := dk_173 (dk_at dksX50_common_1 6 rfl rfl)
abbrev cX50_shareAt : ByteArray := prog_64_method_18_code
def yX50_shareAt : MethodName := ⟨RX50, "shareAt", "(IIII)I"⟩
def dkwX50_shareAt_0 : List UInt8 := [16, 18, 27, 104, 5, 6, 28, 104, 29, 96, 104, 96, 21, 4, 96, 172]
abbrev dktX50_shareAt_0 : List UInt8 := dkwX50_shareAt_0 ++ []
theorem dksX50_shareAt_0 : cX50_shareAt.data.toList.drop 0 = dktX50_shareAt_0 := by decide +kernel
theorem dX50_shareAt_0 : decode cX50_shareAt 0 = .ok (.bipush 18, 2) := dk_16 18 (dk_at dksX50_shareAt_0 0 rfl rfl)
theorem dX50_shareAt_2 : decode cX50_shareAt 2 = .ok (.iload_n 1, 1) := dk_27 (dk_at dksX50_shareAt_0 2 rfl rfl)
theorem dX50_shareAt_3 : decode cX50_shareAt 3 = .ok (.imul, 1) := dk_104 (dk_at dksX50_shareAt_0 3 rfl rfl)
theorem dX50_shareAt_4 : decode cX50_shareAt 4 = .ok (.iconst 2, 1) := dk_5 (dk_at dksX50_shareAt_0 4 rfl rfl)
theorem dX50_shareAt_5 : decode cX50_shareAt 5 = .ok (.iconst 3, 1) := dk_6 (dk_at dksX50_shareAt_0 5 rfl rfl)
theorem dX50_shareAt_6 : decode cX50_shareAt 6 = .ok (.iload_n 2, 1) := dk_28 (dk_at dksX50_shareAt_0 6 rfl rfl)
theorem dX50_shareAt_7 : decode cX50_shareAt 7 = .ok (.imul, 1) := dk_104 (dk_at dksX50_shareAt_0 7 rfl rfl)
theorem dX50_shareAt_8 : decode cX50_shareAt 8 = .ok (.iload_n 3, 1) := dk_29 (dk_at dksX50_shareAt_0 8 rfl rfl)
theorem dX50_shareAt_9 : decode cX50_shareAt 9 = .ok (.iadd, 1) := dk_96 (dk_at dksX50_shareAt_0 9 rfl rfl)
theorem dX50_shareAt_10 : decode cX50_shareAt 10 = .ok (.imul, 1) := dk_104 (dk_at dksX50_shareAt_0 10 rfl rfl)
theorem dX50_shareAt_11 : decode cX50_shareAt 11 = .ok (.iadd, 1) := dk_96 (dk_at dksX50_shareAt_0 11 rfl rfl)
theorem dX50_shareAt_12 : decode cX50_shareAt 12 = .ok (.iload 4, 2) := dk_21 4 (dk_at dksX50_shareAt_0 12 rfl rfl)
theorem dX50_shareAt_14 : decode cX50_shareAt 14 = .ok (.iadd, 1) := dk_96 (dk_at dksX50_shareAt_0 14 rfl rfl)
theorem dX50_shareAt_15 : decode cX50_shareAt 15 = .ok (.ireturn, 1) := dk_172 (dk_at dksX50_shareAt_0 15 rfl rfl)
abbrev cX50_part : ByteArray := prog_64_method_20_code
def yX50_part : MethodName := ⟨RX50, "part", "(IIII)J"⟩
def dkwX50_part_5 : List UInt8 := [22, 10, 167, 0, 15, 21, 4, 154, 0, 8, 22, 5, 167, 0, 5, 22, 7, 173]
abbrev dktX50_part_5 : List UInt8 := dkwX50_part_5 ++ []
def dkwX50_part_4 : List UInt8 := [101, 21, 9, 4, 164, 0, 8, 22, 7, 167, 0, 4, 9, 101, 55, 10, 21, 4, 21, 9, 160, 0, 8]
abbrev dktX50_part_4 : List UInt8 := dkwX50_part_4 ++ dktX50_part_5
def dkwX50_part_3 : List UInt8 := [96, 46, 4, 100, 54, 9, 42, 27, 28, 29, 182, 0, 156, 21, 9, 158, 0, 8, 22, 5, 167, 0, 4, 9]
abbrev dktX50_part_3 : List UInt8 := dkwX50_part_3 ++ dktX50_part_4
def dkwX50_part_2 : List UInt8 := [180, 0, 25, 42, 27, 28, 29, 3, 182, 0, 152, 46, 133, 105, 55, 7, 42, 180, 0, 16, 6, 27, 104, 28]
abbrev dktX50_part_2 : List UInt8 := dkwX50_part_2 ++ dktX50_part_3
def dkwX50_part_1 : List UInt8 := [182, 0, 152, 46, 133, 105, 55, 5, 42, 180, 0, 22, 42, 27, 28, 29, 4, 182, 0, 152, 46, 133, 42]
abbrev dktX50_part_1 : List UInt8 := dkwX50_part_1 ++ dktX50_part_2
def dkwX50_part_0 : List UInt8 := [42, 180, 0, 22, 42, 27, 28, 29, 3, 182, 0, 152, 46, 133, 42, 180, 0, 25, 42, 27, 28, 29, 4]
abbrev dktX50_part_0 : List UInt8 := dkwX50_part_0 ++ dktX50_part_1
theorem dksX50_part_0 : cX50_part.data.toList.drop 0 = dktX50_part_0 := by decide +kernel
theorem dksX50_part_1 : cX50_part.data.toList.drop 23 = dktX50_part_1 := dk_seg dksX50_part_0 23 rfl rfl
theorem dksX50_part_2 : cX50_part.data.toList.drop 46 = dktX50_part_2 := dk_seg dksX50_part_1 23 rfl rfl
theorem dksX50_part_3 : cX50_part.data.toList.drop 70 = dktX50_part_3 := dk_seg dksX50_part_2 24 rfl rfl
theorem dksX50_part_4 : cX50_part.data.toList.drop 94 = dktX50_part_4 := dk_seg dksX50_part_3 24 rfl rfl
theorem dksX50_part_5 : cX50_part.data.toList.drop 117 = dktX50_part_5 := dk_seg dksX50_part_4 23 rfl rfl
theorem dX50_part_0 : decode cX50_part 0 = .ok (.aload_n 0, 1) := dk_42 (dk_at dksX50_part_0 0 rfl rfl)
theorem dX50_part_1 : decode cX50_part 1 = .ok (.getfield 22, 3) := dk_180 0 22 (dk_at dksX50_part_0 1 rfl rfl)
theorem dX50_part_4 : decode cX50_part 4 = .ok (.aload_n 0, 1) := dk_42 (dk_at dksX50_part_0 4 rfl rfl)
theorem dX50_part_5 : decode cX50_part 5 = .ok (.iload_n 1, 1) := dk_27 (dk_at dksX50_part_0 5 rfl rfl)
theorem dX50_part_6 : decode cX50_part 6 = .ok (.iload_n 2, 1) := dk_28 (dk_at dksX50_part_0 6 rfl rfl)
theorem dX50_part_7 : decode cX50_part 7 = .ok (.iload_n 3, 1) := dk_29 (dk_at dksX50_part_0 7 rfl rfl)
theorem dX50_part_8 : decode cX50_part 8 = .ok (.iconst 0, 1) := dk_3 (dk_at dksX50_part_0 8 rfl rfl)
theorem dX50_part_9 : decode cX50_part 9 = .ok (.invokevirtual 152, 3) := dk_182 0 152 (dk_at dksX50_part_0 9 rfl rfl)
theorem dX50_part_12 : decode cX50_part 12 = .ok (.iaload, 1) := dk_46 (dk_at dksX50_part_0 12 rfl rfl)
theorem dX50_part_13 : decode cX50_part 13 = .ok (.i2l, 1) := dk_133 (dk_at dksX50_part_0 13 rfl rfl)
theorem dX50_part_14 : decode cX50_part 14 = .ok (.aload_n 0, 1) := dk_42 (dk_at dksX50_part_0 14 rfl rfl)
theorem dX50_part_15 : decode cX50_part 15 = .ok (.getfield 25, 3) := dk_180 0 25 (dk_at dksX50_part_0 15 rfl rfl)
theorem dX50_part_18 : decode cX50_part 18 = .ok (.aload_n 0, 1) := dk_42 (dk_at dksX50_part_0 18 rfl rfl)
theorem dX50_part_19 : decode cX50_part 19 = .ok (.iload_n 1, 1) := dk_27 (dk_at dksX50_part_0 19 rfl rfl)
theorem dX50_part_20 : decode cX50_part 20 = .ok (.iload_n 2, 1) := dk_28 (dk_at dksX50_part_0 20 rfl rfl)
theorem dX50_part_21 : decode cX50_part 21 = .ok (.iload_n 3, 1) := dk_29 (dk_at dksX50_part_0 21 rfl rfl)
theorem dX50_part_22 : decode cX50_part 22 = .ok (.iconst 1, 1) := dk_4 (dk_at dksX50_part_0 22 rfl rfl)
theorem dX50_part_23 : decode cX50_part 23 = .ok (.invokevirtual 152, 3) := dk_182 0 152 (dk_at dksX50_part_1 0 rfl rfl)
theorem dX50_part_26 : decode cX50_part 26 = .ok (.iaload, 1) := dk_46 (dk_at dksX50_part_1 3 rfl rfl)
theorem dX50_part_27 : decode cX50_part 27 = .ok (.i2l, 1) := dk_133 (dk_at dksX50_part_1 4 rfl rfl)
theorem dX50_part_28 : decode cX50_part 28 = .ok (.lmul, 1) := dk_105 (dk_at dksX50_part_1 5 rfl rfl)
theorem dX50_part_29 : decode cX50_part 29 = .ok (.lstore 5, 2) := dk_55 5 (dk_at dksX50_part_1 6 rfl rfl)
theorem dX50_part_31 : decode cX50_part 31 = .ok (.aload_n 0, 1) := dk_42 (dk_at dksX50_part_1 8 rfl rfl)
theorem dX50_part_32 : decode cX50_part 32 = .ok (.getfield 22, 3) := dk_180 0 22 (dk_at dksX50_part_1 9 rfl rfl)
theorem dX50_part_35 : decode cX50_part 35 = .ok (.aload_n 0, 1) := dk_42 (dk_at dksX50_part_1 12 rfl rfl)
theorem dX50_part_36 : decode cX50_part 36 = .ok (.iload_n 1, 1) := dk_27 (dk_at dksX50_part_1 13 rfl rfl)
theorem dX50_part_37 : decode cX50_part 37 = .ok (.iload_n 2, 1) := dk_28 (dk_at dksX50_part_1 14 rfl rfl)
theorem dX50_part_38 : decode cX50_part 38 = .ok (.iload_n 3, 1) := dk_29 (dk_at dksX50_part_1 15 rfl rfl)
theorem dX50_part_39 : decode cX50_part 39 = .ok (.iconst 1, 1) := dk_4 (dk_at dksX50_part_1 16 rfl rfl)
theorem dX50_part_40 : decode cX50_part 40 = .ok (.invokevirtual 152, 3) := dk_182 0 152 (dk_at dksX50_part_1 17 rfl rfl)
theorem dX50_part_43 : decode cX50_part 43 = .ok (.iaload, 1) := dk_46 (dk_at dksX50_part_1 20 rfl rfl)
theorem dX50_part_44 : decode cX50_part 44 = .ok (.i2l, 1) := dk_133 (dk_at dksX50_part_1 21 rfl rfl)
theorem dX50_part_45 : decode cX50_part 45 = .ok (.aload_n 0, 1) := dk_42 (dk_at dksX50_part_1 22 rfl rfl)
theorem dX50_part_46 : decode cX50_part 46 = .ok (.getfield 25, 3) := dk_180 0 25 (dk_at dksX50_part_2 0 rfl rfl)
theorem dX50_part_49 : decode cX50_part 49 = .ok (.aload_n 0, 1) := dk_42 (dk_at dksX50_part_2 3 rfl rfl)
theorem dX50_part_50 : decode cX50_part 50 = .ok (.iload_n 1, 1) := dk_27 (dk_at dksX50_part_2 4 rfl rfl)
theorem dX50_part_51 : decode cX50_part 51 = .ok (.iload_n 2, 1) := dk_28 (dk_at dksX50_part_2 5 rfl rfl)
theorem dX50_part_52 : decode cX50_part 52 = .ok (.iload_n 3, 1) := dk_29 (dk_at dksX50_part_2 6 rfl rfl)
theorem dX50_part_53 : decode cX50_part 53 = .ok (.iconst 0, 1) := dk_3 (dk_at dksX50_part_2 7 rfl rfl)
theorem dX50_part_54 : decode cX50_part 54 = .ok (.invokevirtual 152, 3) := dk_182 0 152 (dk_at dksX50_part_2 8 rfl rfl)
theorem dX50_part_57 : decode cX50_part 57 = .ok (.iaload, 1) := dk_46 (dk_at dksX50_part_2 11 rfl rfl)
theorem dX50_part_58 : decode cX50_part 58 = .ok (.i2l, 1) := dk_133 (dk_at dksX50_part_2 12 rfl rfl)
theorem dX50_part_59 : decode cX50_part 59 = .ok (.lmul, 1) := dk_105 (dk_at dksX50_part_2 13 rfl rfl)
theorem dX50_part_60 : decode cX50_part 60 = .ok (.lstore 7, 2) := dk_55 7 (dk_at dksX50_part_2 14 rfl rfl)
theorem dX50_part_62 : decode cX50_part 62 = .ok (.aload_n 0, 1) := dk_42 (dk_at dksX50_part_2 16 rfl rfl)
theorem dX50_part_63 : decode cX50_part 63 = .ok (.getfield 16, 3) := dk_180 0 16 (dk_at dksX50_part_2 17 rfl rfl)
theorem dX50_part_66 : decode cX50_part 66 = .ok (.iconst 3, 1) := dk_6 (dk_at dksX50_part_2 20 rfl rfl)
theorem dX50_part_67 : decode cX50_part 67 = .ok (.iload_n 1, 1) := dk_27 (dk_at dksX50_part_2 21 rfl rfl)
theorem dX50_part_68 : decode cX50_part 68 = .ok (.imul, 1) := dk_104 (dk_at dksX50_part_2 22 rfl rfl)
theorem dX50_part_69 : decode cX50_part 69 = .ok (.iload_n 2, 1) := dk_28 (dk_at dksX50_part_2 23 rfl rfl)
theorem dX50_part_70 : decode cX50_part 70 = .ok (.iadd, 1) := dk_96 (dk_at dksX50_part_3 0 rfl rfl)
theorem dX50_part_71 : decode cX50_part 71 = .ok (.iaload, 1) := dk_46 (dk_at dksX50_part_3 1 rfl rfl)
theorem dX50_part_72 : decode cX50_part 72 = .ok (.iconst 1, 1) := dk_4 (dk_at dksX50_part_3 2 rfl rfl)
theorem dX50_part_73 : decode cX50_part 73 = .ok (.isub, 1) := dk_100 (dk_at dksX50_part_3 3 rfl rfl)
theorem dX50_part_74 : decode cX50_part 74 = .ok (.istore 9, 2) := dk_54 9 (dk_at dksX50_part_3 4 rfl rfl)
theorem dX50_part_76 : decode cX50_part 76 = .ok (.aload_n 0, 1) := dk_42 (dk_at dksX50_part_3 6 rfl rfl)
theorem dX50_part_77 : decode cX50_part 77 = .ok (.iload_n 1, 1) := dk_27 (dk_at dksX50_part_3 7 rfl rfl)
theorem dX50_part_78 : decode cX50_part 78 = .ok (.iload_n 2, 1) := dk_28 (dk_at dksX50_part_3 8 rfl rfl)
theorem dX50_part_79 : decode cX50_part 79 = .ok (.iload_n 3, 1) := dk_29 (dk_at dksX50_part_3 9 rfl rfl)
theorem dX50_part_80 : decode cX50_part 80 = .ok (.invokevirtual 156, 3) := dk_182 0 156 (dk_at dksX50_part_3 10 rfl rfl)
theorem dX50_part_83 : decode cX50_part 83 = .ok (.iload 9, 2) := dk_21 9 (dk_at dksX50_part_3 13 rfl rfl)
theorem dX50_part_85 : decode cX50_part 85 = .ok (.ifCond .le 8, 3) := dk_158 0 8 (dk_at dksX50_part_3 15 rfl rfl)
theorem dX50_part_88 : decode cX50_part 88 = .ok (.lload 5, 2) := dk_22 5 (dk_at dksX50_part_3 18 rfl rfl)
theorem dX50_part_90 : decode cX50_part 90 = .ok (.goto 4, 3) := dk_167 0 4 (dk_at dksX50_part_3 20 rfl rfl)
theorem dX50_part_93 : decode cX50_part 93 = .ok (.lconst 0, 1) := dk_9 (dk_at dksX50_part_3 23 rfl rfl)
theorem dX50_part_94 : decode cX50_part 94 = .ok (.lsub, 1) := dk_101 (dk_at dksX50_part_4 0 rfl rfl)
theorem dX50_part_95 : decode cX50_part 95 = .ok (.iload 9, 2) := dk_21 9 (dk_at dksX50_part_4 1 rfl rfl)
theorem dX50_part_97 : decode cX50_part 97 = .ok (.iconst 1, 1) := dk_4 (dk_at dksX50_part_4 3 rfl rfl)
theorem dX50_part_98 : decode cX50_part 98 = .ok (.if_icmp .le 8, 3) := dk_164 0 8 (dk_at dksX50_part_4 4 rfl rfl)
theorem dX50_part_101 : decode cX50_part 101 = .ok (.lload 7, 2) := dk_22 7 (dk_at dksX50_part_4 7 rfl rfl)
theorem dX50_part_103 : decode cX50_part 103 = .ok (.goto 4, 3) := dk_167 0 4 (dk_at dksX50_part_4 9 rfl rfl)
theorem dX50_part_106 : decode cX50_part 106 = .ok (.lconst 0, 1) := dk_9 (dk_at dksX50_part_4 12 rfl rfl)
theorem dX50_part_107 : decode cX50_part 107 = .ok (.lsub, 1) := dk_101 (dk_at dksX50_part_4 13 rfl rfl)
theorem dX50_part_108 : decode cX50_part 108 = .ok (.lstore 10, 2) := dk_55 10 (dk_at dksX50_part_4 14 rfl rfl)
theorem dX50_part_110 : decode cX50_part 110 = .ok (.iload 4, 2) := dk_21 4 (dk_at dksX50_part_4 16 rfl rfl)
theorem dX50_part_112 : decode cX50_part 112 = .ok (.iload 9, 2) := dk_21 9 (dk_at dksX50_part_4 18 rfl rfl)
theorem dX50_part_114 : decode cX50_part 114 = .ok (.if_icmp .ne 8, 3) := dk_160 0 8 (dk_at dksX50_part_4 20 rfl rfl)
theorem dX50_part_117 : decode cX50_part 117 = .ok (.lload 10, 2) := dk_22 10 (dk_at dksX50_part_5 0 rfl rfl)
theorem dX50_part_119 : decode cX50_part 119 = .ok (.goto 15, 3) := dk_167 0 15 (dk_at dksX50_part_5 2 rfl rfl)
theorem dX50_part_122 : decode cX50_part 122 = .ok (.iload 4, 2) := dk_21 4 (dk_at dksX50_part_5 5 rfl rfl)
theorem dX50_part_124 : decode cX50_part 124 = .ok (.ifCond .ne 8, 3) := dk_154 0 8 (dk_at dksX50_part_5 7 rfl rfl)
theorem dX50_part_127 : decode cX50_part 127 = .ok (.lload 5, 2) := dk_22 5 (dk_at dksX50_part_5 10 rfl rfl)
theorem dX50_part_129 : decode cX50_part 129 = .ok (.goto 5, 3) := dk_167 0 5 (dk_at dksX50_part_5 12 rfl rfl)
theorem dX50_part_132 : decode cX50_part 132 = .ok (.lload 7, 2) := dk_22 7 (dk_at dksX50_part_5 15 rfl rfl)
theorem dX50_part_134 : decode cX50_part 134 = .ok (.lreturn, 1) := dk_173 (dk_at dksX50_part_5 17 rfl rfl)
abbrev cX50_stuck : ByteArray := prog_64_method_23_code
def yX50_stuck : MethodName := ⟨RX50, "stuck", "(I)I"⟩
def dkwX50_stuck_5 : List UInt8 := [154, 0, 5, 29, 172, 132, 4, 1, 167, 255, 229, 132, 3, 1, 167, 255, 210, 2, 172]
abbrev dktX50_stuck_5 : List UInt8 := dkwX50_stuck_5 ++ []
def dkwX50_stuck_4 : List UInt8 := [3, 54, 4, 21, 4, 42, 180, 0, 97, 162, 0, 24, 28, 6, 29, 104, 21, 4, 96, 122, 4, 126]
abbrev dktX50_stuck_4 : List UInt8 := dkwX50_stuck_4 ++ dktX50_stuck_5
def dkwX50_stuck_3 : List UInt8 := [132, 4, 1, 167, 255, 195, 132, 3, 1, 167, 255, 180, 3, 62, 29, 42, 180, 0, 7, 27, 46, 162, 0, 42]
abbrev dktX50_stuck_3 : List UInt8 := dkwX50_stuck_3 ++ dktX50_stuck_4
def dkwX50_stuck_2 : List UInt8 := [153, 0, 15, 4, 6, 21, 4, 104, 21, 5, 96, 120, 167, 0, 4, 3, 128, 61, 132, 5, 1, 167, 255, 215]
abbrev dktX50_stuck_2 : List UInt8 := dkwX50_stuck_2 ++ dktX50_stuck_3
def dkwX50_stuck_1 : List UInt8 := [3, 54, 5, 21, 5, 42, 180, 0, 97, 162, 0, 38, 28, 42, 27, 21, 4, 21, 5, 28, 182, 0, 168]
abbrev dktX50_stuck_1 : List UInt8 := dkwX50_stuck_1 ++ dktX50_stuck_2
def dkwX50_stuck_0 : List UInt8 := [3, 61, 3, 62, 29, 16, 9, 162, 0, 76, 3, 54, 4, 21, 4, 42, 180, 0, 7, 27, 46, 162, 0, 56]
abbrev dktX50_stuck_0 : List UInt8 := dkwX50_stuck_0 ++ dktX50_stuck_1
theorem dksX50_stuck_0 : cX50_stuck.data.toList.drop 0 = dktX50_stuck_0 := by decide +kernel
theorem dksX50_stuck_1 : cX50_stuck.data.toList.drop 24 = dktX50_stuck_1 := dk_seg dksX50_stuck_0 24 rfl rfl
theorem dksX50_stuck_2 : cX50_stuck.data.toList.drop 47 = dktX50_stuck_2 := dk_seg dksX50_stuck_1 23 rfl rfl
theorem dksX50_stuck_3 : cX50_stuck.data.toList.drop 71 = dktX50_stuck_3 := dk_seg dksX50_stuck_2 24 rfl rfl
theorem dksX50_stuck_4 : cX50_stuck.data.toList.drop 95 = dktX50_stuck_4 := dk_seg dksX50_stuck_3 24 rfl rfl
theorem dksX50_stuck_5 : cX50_stuck.data.toList.drop 117 = dktX50_stuck_5 := dk_seg dksX50_stuck_4 22 rfl rfl
theorem dX50_stuck_0 : decode cX50_stuck 0 = .ok (.iconst 0, 1) := dk_3 (dk_at dksX50_stuck_0 0 rfl rfl)
theorem dX50_stuck_1 : decode cX50_stuck 1 = .ok (.istore_n 2, 1) := dk_61 (dk_at dksX50_stuck_0 1 rfl rfl)
theorem dX50_stuck_2 : decode cX50_stuck 2 = .ok (.iconst 0, 1) := dk_3 (dk_at dksX50_stuck_0 2 rfl rfl)
theorem dX50_stuck_3 : decode cX50_stuck 3 = .ok (.istore_n 3, 1) := dk_62 (dk_at dksX50_stuck_0 3 rfl rfl)
theorem dX50_stuck_4 : decode cX50_stuck 4 = .ok (.iload_n 3, 1) := dk_29 (dk_at dksX50_stuck_0 4 rfl rfl)
theorem dX50_stuck_5 : decode cX50_stuck 5 = .ok (.bipush 9, 2) := dk_16 9 (dk_at dksX50_stuck_0 5 rfl rfl)
theorem dX50_stuck_7 : decode cX50_stuck 7 = .ok (.if_icmp .ge 76, 3) := dk_162 0 76 (dk_at dksX50_stuck_0 7 rfl rfl)
theorem dX50_stuck_10 : decode cX50_stuck 10 = .ok (.iconst 0, 1) := dk_3 (dk_at dksX50_stuck_0 10 rfl rfl)
theorem dX50_stuck_11 : decode cX50_stuck 11 = .ok (.istore 4, 2) := dk_54 4 (dk_at dksX50_stuck_0 11 rfl rfl)
theorem dX50_stuck_13 : decode cX50_stuck 13 = .ok (.iload 4, 2) := dk_21 4 (dk_at dksX50_stuck_0 13 rfl rfl)
theorem dX50_stuck_15 : decode cX50_stuck 15 = .ok (.aload_n 0, 1) := dk_42 (dk_at dksX50_stuck_0 15 rfl rfl)
theorem dX50_stuck_16 : decode cX50_stuck 16 = .ok (.getfield 7, 3) := dk_180 0 7 (dk_at dksX50_stuck_0 16 rfl rfl)
theorem dX50_stuck_19 : decode cX50_stuck 19 = .ok (.iload_n 1, 1) := dk_27 (dk_at dksX50_stuck_0 19 rfl rfl)
theorem dX50_stuck_20 : decode cX50_stuck 20 = .ok (.iaload, 1) := dk_46 (dk_at dksX50_stuck_0 20 rfl rfl)
theorem dX50_stuck_21 : decode cX50_stuck 21 = .ok (.if_icmp .ge 56, 3) := dk_162 0 56 (dk_at dksX50_stuck_0 21 rfl rfl)
theorem dX50_stuck_24 : decode cX50_stuck 24 = .ok (.iconst 0, 1) := dk_3 (dk_at dksX50_stuck_1 0 rfl rfl)
theorem dX50_stuck_25 : decode cX50_stuck 25 = .ok (.istore 5, 2) := dk_54 5 (dk_at dksX50_stuck_1 1 rfl rfl)
theorem dX50_stuck_27 : decode cX50_stuck 27 = .ok (.iload 5, 2) := dk_21 5 (dk_at dksX50_stuck_1 3 rfl rfl)
theorem dX50_stuck_29 : decode cX50_stuck 29 = .ok (.aload_n 0, 1) := dk_42 (dk_at dksX50_stuck_1 5 rfl rfl)
theorem dX50_stuck_30 : decode cX50_stuck 30 = .ok (.getfield 97, 3) := dk_180 0 97 (dk_at dksX50_stuck_1 6 rfl rfl)
theorem dX50_stuck_33 : decode cX50_stuck 33 = .ok (.if_icmp .ge 38, 3) := dk_162 0 38 (dk_at dksX50_stuck_1 9 rfl rfl)
theorem dX50_stuck_36 : decode cX50_stuck 36 = .ok (.iload_n 2, 1) := dk_28 (dk_at dksX50_stuck_1 12 rfl rfl)
theorem dX50_stuck_37 : decode cX50_stuck 37 = .ok (.aload_n 0, 1) := dk_42 (dk_at dksX50_stuck_1 13 rfl rfl)
theorem dX50_stuck_38 : decode cX50_stuck 38 = .ok (.iload_n 1, 1) := dk_27 (dk_at dksX50_stuck_1 14 rfl rfl)
theorem dX50_stuck_39 : decode cX50_stuck 39 = .ok (.iload 4, 2) := dk_21 4 (dk_at dksX50_stuck_1 15 rfl rfl)
theorem dX50_stuck_41 : decode cX50_stuck 41 = .ok (.iload 5, 2) := dk_21 5 (dk_at dksX50_stuck_1 17 rfl rfl)
theorem dX50_stuck_43 : decode cX50_stuck 43 = .ok (.iload_n 2, 1) := dk_28 (dk_at dksX50_stuck_1 19 rfl rfl)
theorem dX50_stuck_44 : decode cX50_stuck 44 = .ok (.invokevirtual 168, 3) := dk_182 0 168 (dk_at dksX50_stuck_1 20 rfl rfl)
theorem dX50_stuck_47 : decode cX50_stuck 47 = .ok (.ifCond .eq 15, 3) := dk_153 0 15 (dk_at dksX50_stuck_2 0 rfl rfl)
theorem dX50_stuck_50 : decode cX50_stuck 50 = .ok (.iconst 1, 1) := dk_4 (dk_at dksX50_stuck_2 3 rfl rfl)
theorem dX50_stuck_51 : decode cX50_stuck 51 = .ok (.iconst 3, 1) := dk_6 (dk_at dksX50_stuck_2 4 rfl rfl)
theorem dX50_stuck_52 : decode cX50_stuck 52 = .ok (.iload 4, 2) := dk_21 4 (dk_at dksX50_stuck_2 5 rfl rfl)
theorem dX50_stuck_54 : decode cX50_stuck 54 = .ok (.imul, 1) := dk_104 (dk_at dksX50_stuck_2 7 rfl rfl)
theorem dX50_stuck_55 : decode cX50_stuck 55 = .ok (.iload 5, 2) := dk_21 5 (dk_at dksX50_stuck_2 8 rfl rfl)
theorem dX50_stuck_57 : decode cX50_stuck 57 = .ok (.iadd, 1) := dk_96 (dk_at dksX50_stuck_2 10 rfl rfl)
theorem dX50_stuck_58 : decode cX50_stuck 58 = .ok (.ishl, 1) := dk_120 (dk_at dksX50_stuck_2 11 rfl rfl)
theorem dX50_stuck_59 : decode cX50_stuck 59 = .ok (.goto 4, 3) := dk_167 0 4 (dk_at dksX50_stuck_2 12 rfl rfl)
theorem dX50_stuck_62 : decode cX50_stuck 62 = .ok (.iconst 0, 1) := dk_3 (dk_at dksX50_stuck_2 15 rfl rfl)
theorem dX50_stuck_63 : decode cX50_stuck 63 = .ok (.ior, 1) := dk_128 (dk_at dksX50_stuck_2 16 rfl rfl)
theorem dX50_stuck_64 : decode cX50_stuck 64 = .ok (.istore_n 2, 1) := dk_61 (dk_at dksX50_stuck_2 17 rfl rfl)
theorem dX50_stuck_65 : decode cX50_stuck 65 = .ok (.iinc 5 1, 3) := dk_132 5 1 (dk_at dksX50_stuck_2 18 rfl rfl)
theorem dX50_stuck_68 : decode cX50_stuck 68 = .ok (.goto (-41), 3) := dk_167 255 215 (dk_at dksX50_stuck_2 21 rfl rfl)
theorem dX50_stuck_71 : decode cX50_stuck 71 = .ok (.iinc 4 1, 3) := dk_132 4 1 (dk_at dksX50_stuck_3 0 rfl rfl)
theorem dX50_stuck_74 : decode cX50_stuck 74 = .ok (.goto (-61), 3) := dk_167 255 195 (dk_at dksX50_stuck_3 3 rfl rfl)
theorem dX50_stuck_77 : decode cX50_stuck 77 = .ok (.iinc 3 1, 3) := dk_132 3 1 (dk_at dksX50_stuck_3 6 rfl rfl)
theorem dX50_stuck_80 : decode cX50_stuck 80 = .ok (.goto (-76), 3) := dk_167 255 180 (dk_at dksX50_stuck_3 9 rfl rfl)
theorem dX50_stuck_83 : decode cX50_stuck 83 = .ok (.iconst 0, 1) := dk_3 (dk_at dksX50_stuck_3 12 rfl rfl)
theorem dX50_stuck_84 : decode cX50_stuck 84 = .ok (.istore_n 3, 1) := dk_62 (dk_at dksX50_stuck_3 13 rfl rfl)
theorem dX50_stuck_85 : decode cX50_stuck 85 = .ok (.iload_n 3, 1) := dk_29 (dk_at dksX50_stuck_3 14 rfl rfl)
theorem dX50_stuck_86 : decode cX50_stuck 86 = .ok (.aload_n 0, 1) := dk_42 (dk_at dksX50_stuck_3 15 rfl rfl)
theorem dX50_stuck_87 : decode cX50_stuck 87 = .ok (.getfield 7, 3) := dk_180 0 7 (dk_at dksX50_stuck_3 16 rfl rfl)
theorem dX50_stuck_90 : decode cX50_stuck 90 = .ok (.iload_n 1, 1) := dk_27 (dk_at dksX50_stuck_3 19 rfl rfl)
theorem dX50_stuck_91 : decode cX50_stuck 91 = .ok (.iaload, 1) := dk_46 (dk_at dksX50_stuck_3 20 rfl rfl)
theorem dX50_stuck_92 : decode cX50_stuck 92 = .ok (.if_icmp .ge 42, 3) := dk_162 0 42 (dk_at dksX50_stuck_3 21 rfl rfl)
theorem dX50_stuck_95 : decode cX50_stuck 95 = .ok (.iconst 0, 1) := dk_3 (dk_at dksX50_stuck_4 0 rfl rfl)
theorem dX50_stuck_96 : decode cX50_stuck 96 = .ok (.istore 4, 2) := dk_54 4 (dk_at dksX50_stuck_4 1 rfl rfl)
theorem dX50_stuck_98 : decode cX50_stuck 98 = .ok (.iload 4, 2) := dk_21 4 (dk_at dksX50_stuck_4 3 rfl rfl)
theorem dX50_stuck_100 : decode cX50_stuck 100 = .ok (.aload_n 0, 1) := dk_42 (dk_at dksX50_stuck_4 5 rfl rfl)
theorem dX50_stuck_101 : decode cX50_stuck 101 = .ok (.getfield 97, 3) := dk_180 0 97 (dk_at dksX50_stuck_4 6 rfl rfl)
theorem dX50_stuck_104 : decode cX50_stuck 104 = .ok (.if_icmp .ge 24, 3) := dk_162 0 24 (dk_at dksX50_stuck_4 9 rfl rfl)
theorem dX50_stuck_107 : decode cX50_stuck 107 = .ok (.iload_n 2, 1) := dk_28 (dk_at dksX50_stuck_4 12 rfl rfl)
theorem dX50_stuck_108 : decode cX50_stuck 108 = .ok (.iconst 3, 1) := dk_6 (dk_at dksX50_stuck_4 13 rfl rfl)
theorem dX50_stuck_109 : decode cX50_stuck 109 = .ok (.iload_n 3, 1) := dk_29 (dk_at dksX50_stuck_4 14 rfl rfl)
theorem dX50_stuck_110 : decode cX50_stuck 110 = .ok (.imul, 1) := dk_104 (dk_at dksX50_stuck_4 15 rfl rfl)
theorem dX50_stuck_111 : decode cX50_stuck 111 = .ok (.iload 4, 2) := dk_21 4 (dk_at dksX50_stuck_4 16 rfl rfl)
theorem dX50_stuck_113 : decode cX50_stuck 113 = .ok (.iadd, 1) := dk_96 (dk_at dksX50_stuck_4 18 rfl rfl)
theorem dX50_stuck_114 : decode cX50_stuck 114 = .ok (.ishr, 1) := dk_122 (dk_at dksX50_stuck_4 19 rfl rfl)
theorem dX50_stuck_115 : decode cX50_stuck 115 = .ok (.iconst 1, 1) := dk_4 (dk_at dksX50_stuck_4 20 rfl rfl)
theorem dX50_stuck_116 : decode cX50_stuck 116 = .ok (.iand, 1) := dk_126 (dk_at dksX50_stuck_4 21 rfl rfl)
theorem dX50_stuck_117 : decode cX50_stuck 117 = .ok (.ifCond .ne 5, 3) := dk_154 0 5 (dk_at dksX50_stuck_5 0 rfl rfl)
theorem dX50_stuck_120 : decode cX50_stuck 120 = .ok (.iload_n 3, 1) := dk_29 (dk_at dksX50_stuck_5 3 rfl rfl)
theorem dX50_stuck_121 : decode cX50_stuck 121 = .ok (.ireturn, 1) := dk_172 (dk_at dksX50_stuck_5 4 rfl rfl)
theorem dX50_stuck_122 : decode cX50_stuck 122 = .ok (.iinc 4 1, 3) := dk_132 4 1 (dk_at dksX50_stuck_5 5 rfl rfl)
theorem dX50_stuck_125 : decode cX50_stuck 125 = .ok (.goto (-27), 3) := dk_167 255 229 (dk_at dksX50_stuck_5 8 rfl rfl)
theorem dX50_stuck_128 : decode cX50_stuck 128 = .ok (.iinc 3 1, 3) := dk_132 3 1 (dk_at dksX50_stuck_5 11 rfl rfl)
theorem dX50_stuck_131 : decode cX50_stuck 131 = .ok (.goto (-46), 3) := dk_167 255 210 (dk_at dksX50_stuck_5 14 rfl rfl)
theorem dX50_stuck_134 : decode cX50_stuck 134 = .ok (.iconst (-1), 1) := dk_2 (dk_at dksX50_stuck_5 17 rfl rfl)
theorem dX50_stuck_135 : decode cX50_stuck 135 = .ok (.ireturn, 1) := dk_172 (dk_at dksX50_stuck_5 18 rfl rfl)
abbrev cX50_goes : ByteArray := prog_64_method_24_code
def yX50_goes : MethodName := ⟨RX50, "goes", "(IIII)Z"⟩
def dkwX50_goes_5 : List UInt8 := [4, 167, 0, 4, 3, 54, 6, 132, 9, 1, 167, 255, 176, 132, 7, 1, 167, 255, 134, 21, 6, 172]
abbrev dktX50_goes_5 : List UInt8 := dkwX50_goes_5 ++ []
def dkwX50_goes_4 : List UInt8 := [153, 0, 28, 21, 8, 155, 0, 19, 21, 4, 6, 21, 8, 104, 21, 9, 96, 122, 4, 126, 4, 160, 0, 7]
abbrev dktX50_goes_4 : List UInt8 := dkwX50_goes_4 ++ dktX50_goes_5
def dkwX50_goes_3 : List UInt8 := [104, 21, 5, 96, 47, 9, 148, 158, 0, 7, 4, 167, 0, 4, 3, 54, 10, 21, 6, 154, 0, 29, 21, 10]
abbrev dktX50_goes_3 : List UInt8 := dkwX50_goes_3 ++ dktX50_goes_4
def dkwX50_goes_2 : List UInt8 := [54, 9, 21, 9, 42, 180, 0, 97, 162, 0, 77, 42, 180, 0, 60, 16, 9, 6, 21, 7, 104, 21, 9, 96]
abbrev dktX50_goes_2 : List UInt8 := dkwX50_goes_2 ++ dktX50_goes_3
def dkwX50_goes_1 : List UInt8 := [46, 162, 0, 113, 42, 180, 0, 19, 16, 9, 27, 104, 6, 28, 104, 96, 21, 7, 96, 46, 54, 8, 3]
abbrev dktX50_goes_1 : List UInt8 := dkwX50_goes_1 ++ dktX50_goes_2
def dkwX50_goes_0 : List UInt8 := [6, 28, 104, 29, 96, 54, 5, 3, 54, 6, 3, 54, 7, 21, 7, 42, 180, 0, 16, 6, 27, 104, 28, 96]
abbrev dktX50_goes_0 : List UInt8 := dkwX50_goes_0 ++ dktX50_goes_1
theorem dksX50_goes_0 : cX50_goes.data.toList.drop 0 = dktX50_goes_0 := by decide +kernel
theorem dksX50_goes_1 : cX50_goes.data.toList.drop 24 = dktX50_goes_1 := dk_seg dksX50_goes_0 24 rfl rfl
theorem dksX50_goes_2 : cX50_goes.data.toList.drop 47 = dktX50_goes_2 := dk_seg dksX50_goes_1 23 rfl rfl
theorem dksX50_goes_3 : cX50_goes.data.toList.drop 71 = dktX50_goes_3 := dk_seg dksX50_goes_2 24 rfl rfl
theorem dksX50_goes_4 : cX50_goes.data.toList.drop 95 = dktX50_goes_4 := dk_seg dksX50_goes_3 24 rfl rfl
theorem dksX50_goes_5 : cX50_goes.data.toList.drop 119 = dktX50_goes_5 := dk_seg dksX50_goes_4 24 rfl rfl
theorem dX50_goes_0 : decode cX50_goes 0 = .ok (.iconst 3, 1) := dk_6 (dk_at dksX50_goes_0 0 rfl rfl)
theorem dX50_goes_1 : decode cX50_goes 1 = .ok (.iload_n 2, 1) := dk_28 (dk_at dksX50_goes_0 1 rfl rfl)
theorem dX50_goes_2 : decode cX50_goes 2 = .ok (.imul, 1) := dk_104 (dk_at dksX50_goes_0 2 rfl rfl)
theorem dX50_goes_3 : decode cX50_goes 3 = .ok (.iload_n 3, 1) := dk_29 (dk_at dksX50_goes_0 3 rfl rfl)
theorem dX50_goes_4 : decode cX50_goes 4 = .ok (.iadd, 1) := dk_96 (dk_at dksX50_goes_0 4 rfl rfl)
theorem dX50_goes_5 : decode cX50_goes 5 = .ok (.istore 5, 2) := dk_54 5 (dk_at dksX50_goes_0 5 rfl rfl)
theorem dX50_goes_7 : decode cX50_goes 7 = .ok (.iconst 0, 1) := dk_3 (dk_at dksX50_goes_0 7 rfl rfl)
theorem dX50_goes_8 : decode cX50_goes 8 = .ok (.istore 6, 2) := dk_54 6 (dk_at dksX50_goes_0 8 rfl rfl)
theorem dX50_goes_10 : decode cX50_goes 10 = .ok (.iconst 0, 1) := dk_3 (dk_at dksX50_goes_0 10 rfl rfl)
theorem dX50_goes_11 : decode cX50_goes 11 = .ok (.istore 7, 2) := dk_54 7 (dk_at dksX50_goes_0 11 rfl rfl)
theorem dX50_goes_13 : decode cX50_goes 13 = .ok (.iload 7, 2) := dk_21 7 (dk_at dksX50_goes_0 13 rfl rfl)
theorem dX50_goes_15 : decode cX50_goes 15 = .ok (.aload_n 0, 1) := dk_42 (dk_at dksX50_goes_0 15 rfl rfl)
theorem dX50_goes_16 : decode cX50_goes 16 = .ok (.getfield 16, 3) := dk_180 0 16 (dk_at dksX50_goes_0 16 rfl rfl)
theorem dX50_goes_19 : decode cX50_goes 19 = .ok (.iconst 3, 1) := dk_6 (dk_at dksX50_goes_0 19 rfl rfl)
theorem dX50_goes_20 : decode cX50_goes 20 = .ok (.iload_n 1, 1) := dk_27 (dk_at dksX50_goes_0 20 rfl rfl)
theorem dX50_goes_21 : decode cX50_goes 21 = .ok (.imul, 1) := dk_104 (dk_at dksX50_goes_0 21 rfl rfl)
theorem dX50_goes_22 : decode cX50_goes 22 = .ok (.iload_n 2, 1) := dk_28 (dk_at dksX50_goes_0 22 rfl rfl)
theorem dX50_goes_23 : decode cX50_goes 23 = .ok (.iadd, 1) := dk_96 (dk_at dksX50_goes_0 23 rfl rfl)
theorem dX50_goes_24 : decode cX50_goes 24 = .ok (.iaload, 1) := dk_46 (dk_at dksX50_goes_1 0 rfl rfl)
theorem dX50_goes_25 : decode cX50_goes 25 = .ok (.if_icmp .ge 113, 3) := dk_162 0 113 (dk_at dksX50_goes_1 1 rfl rfl)
theorem dX50_goes_28 : decode cX50_goes 28 = .ok (.aload_n 0, 1) := dk_42 (dk_at dksX50_goes_1 4 rfl rfl)
theorem dX50_goes_29 : decode cX50_goes 29 = .ok (.getfield 19, 3) := dk_180 0 19 (dk_at dksX50_goes_1 5 rfl rfl)
theorem dX50_goes_32 : decode cX50_goes 32 = .ok (.bipush 9, 2) := dk_16 9 (dk_at dksX50_goes_1 8 rfl rfl)
theorem dX50_goes_34 : decode cX50_goes 34 = .ok (.iload_n 1, 1) := dk_27 (dk_at dksX50_goes_1 10 rfl rfl)
theorem dX50_goes_35 : decode cX50_goes 35 = .ok (.imul, 1) := dk_104 (dk_at dksX50_goes_1 11 rfl rfl)
theorem dX50_goes_36 : decode cX50_goes 36 = .ok (.iconst 3, 1) := dk_6 (dk_at dksX50_goes_1 12 rfl rfl)
theorem dX50_goes_37 : decode cX50_goes 37 = .ok (.iload_n 2, 1) := dk_28 (dk_at dksX50_goes_1 13 rfl rfl)
theorem dX50_goes_38 : decode cX50_goes 38 = .ok (.imul, 1) := dk_104 (dk_at dksX50_goes_1 14 rfl rfl)
theorem dX50_goes_39 : decode cX50_goes 39 = .ok (.iadd, 1) := dk_96 (dk_at dksX50_goes_1 15 rfl rfl)
theorem dX50_goes_40 : decode cX50_goes 40 = .ok (.iload 7, 2) := dk_21 7 (dk_at dksX50_goes_1 16 rfl rfl)
theorem dX50_goes_42 : decode cX50_goes 42 = .ok (.iadd, 1) := dk_96 (dk_at dksX50_goes_1 18 rfl rfl)
theorem dX50_goes_43 : decode cX50_goes 43 = .ok (.iaload, 1) := dk_46 (dk_at dksX50_goes_1 19 rfl rfl)
theorem dX50_goes_44 : decode cX50_goes 44 = .ok (.istore 8, 2) := dk_54 8 (dk_at dksX50_goes_1 20 rfl rfl)
theorem dX50_goes_46 : decode cX50_goes 46 = .ok (.iconst 0, 1) := dk_3 (dk_at dksX50_goes_1 22 rfl rfl)
theorem dX50_goes_47 : decode cX50_goes 47 = .ok (.istore 9, 2) := dk_54 9 (dk_at dksX50_goes_2 0 rfl rfl)
theorem dX50_goes_49 : decode cX50_goes 49 = .ok (.iload 9, 2) := dk_21 9 (dk_at dksX50_goes_2 2 rfl rfl)
theorem dX50_goes_51 : decode cX50_goes 51 = .ok (.aload_n 0, 1) := dk_42 (dk_at dksX50_goes_2 4 rfl rfl)
theorem dX50_goes_52 : decode cX50_goes 52 = .ok (.getfield 97, 3) := dk_180 0 97 (dk_at dksX50_goes_2 5 rfl rfl)
theorem dX50_goes_55 : decode cX50_goes 55 = .ok (.if_icmp .ge 77, 3) := dk_162 0 77 (dk_at dksX50_goes_2 8 rfl rfl)
theorem dX50_goes_58 : decode cX50_goes 58 = .ok (.aload_n 0, 1) := dk_42 (dk_at dksX50_goes_2 11 rfl rfl)
theorem dX50_goes_59 : decode cX50_goes 59 = .ok (.getfield 60, 3) := dk_180 0 60 (dk_at dksX50_goes_2 12 rfl rfl)
theorem dX50_goes_62 : decode cX50_goes 62 = .ok (.bipush 9, 2) := dk_16 9 (dk_at dksX50_goes_2 15 rfl rfl)
theorem dX50_goes_64 : decode cX50_goes 64 = .ok (.iconst 3, 1) := dk_6 (dk_at dksX50_goes_2 17 rfl rfl)
theorem dX50_goes_65 : decode cX50_goes 65 = .ok (.iload 7, 2) := dk_21 7 (dk_at dksX50_goes_2 18 rfl rfl)
theorem dX50_goes_67 : decode cX50_goes 67 = .ok (.imul, 1) := dk_104 (dk_at dksX50_goes_2 20 rfl rfl)
theorem dX50_goes_68 : decode cX50_goes 68 = .ok (.iload 9, 2) := dk_21 9 (dk_at dksX50_goes_2 21 rfl rfl)
theorem dX50_goes_70 : decode cX50_goes 70 = .ok (.iadd, 1) := dk_96 (dk_at dksX50_goes_2 23 rfl rfl)
theorem dX50_goes_71 : decode cX50_goes 71 = .ok (.imul, 1) := dk_104 (dk_at dksX50_goes_3 0 rfl rfl)
theorem dX50_goes_72 : decode cX50_goes 72 = .ok (.iload 5, 2) := dk_21 5 (dk_at dksX50_goes_3 1 rfl rfl)
theorem dX50_goes_74 : decode cX50_goes 74 = .ok (.iadd, 1) := dk_96 (dk_at dksX50_goes_3 3 rfl rfl)
theorem dX50_goes_75 : decode cX50_goes 75 = .ok (.laload, 1) := dk_47 (dk_at dksX50_goes_3 4 rfl rfl)
theorem dX50_goes_76 : decode cX50_goes 76 = .ok (.lconst 0, 1) := dk_9 (dk_at dksX50_goes_3 5 rfl rfl)
theorem dX50_goes_77 : decode cX50_goes 77 = .ok (.lcmp, 1) := dk_148 (dk_at dksX50_goes_3 6 rfl rfl)
theorem dX50_goes_78 : decode cX50_goes 78 = .ok (.ifCond .le 7, 3) := dk_158 0 7 (dk_at dksX50_goes_3 7 rfl rfl)
theorem dX50_goes_81 : decode cX50_goes 81 = .ok (.iconst 1, 1) := dk_4 (dk_at dksX50_goes_3 10 rfl rfl)
theorem dX50_goes_82 : decode cX50_goes 82 = .ok (.goto 4, 3) := dk_167 0 4 (dk_at dksX50_goes_3 11 rfl rfl)
theorem dX50_goes_85 : decode cX50_goes 85 = .ok (.iconst 0, 1) := dk_3 (dk_at dksX50_goes_3 14 rfl rfl)
theorem dX50_goes_86 : decode cX50_goes 86 = .ok (.istore 10, 2) := dk_54 10 (dk_at dksX50_goes_3 15 rfl rfl)
theorem dX50_goes_88 : decode cX50_goes 88 = .ok (.iload 6, 2) := dk_21 6 (dk_at dksX50_goes_3 17 rfl rfl)
theorem dX50_goes_90 : decode cX50_goes 90 = .ok (.ifCond .ne 29, 3) := dk_154 0 29 (dk_at dksX50_goes_3 19 rfl rfl)
theorem dX50_goes_93 : decode cX50_goes 93 = .ok (.iload 10, 2) := dk_21 10 (dk_at dksX50_goes_3 22 rfl rfl)
theorem dX50_goes_95 : decode cX50_goes 95 = .ok (.ifCond .eq 28, 3) := dk_153 0 28 (dk_at dksX50_goes_4 0 rfl rfl)
theorem dX50_goes_98 : decode cX50_goes 98 = .ok (.iload 8, 2) := dk_21 8 (dk_at dksX50_goes_4 3 rfl rfl)
theorem dX50_goes_100 : decode cX50_goes 100 = .ok (.ifCond .lt 19, 3) := dk_155 0 19 (dk_at dksX50_goes_4 5 rfl rfl)
theorem dX50_goes_103 : decode cX50_goes 103 = .ok (.iload 4, 2) := dk_21 4 (dk_at dksX50_goes_4 8 rfl rfl)
theorem dX50_goes_105 : decode cX50_goes 105 = .ok (.iconst 3, 1) := dk_6 (dk_at dksX50_goes_4 10 rfl rfl)
theorem dX50_goes_106 : decode cX50_goes 106 = .ok (.iload 8, 2) := dk_21 8 (dk_at dksX50_goes_4 11 rfl rfl)
theorem dX50_goes_108 : decode cX50_goes 108 = .ok (.imul, 1) := dk_104 (dk_at dksX50_goes_4 13 rfl rfl)
theorem dX50_goes_109 : decode cX50_goes 109 = .ok (.iload 9, 2) := dk_21 9 (dk_at dksX50_goes_4 14 rfl rfl)
theorem dX50_goes_111 : decode cX50_goes 111 = .ok (.iadd, 1) := dk_96 (dk_at dksX50_goes_4 16 rfl rfl)
theorem dX50_goes_112 : decode cX50_goes 112 = .ok (.ishr, 1) := dk_122 (dk_at dksX50_goes_4 17 rfl rfl)
theorem dX50_goes_113 : decode cX50_goes 113 = .ok (.iconst 1, 1) := dk_4 (dk_at dksX50_goes_4 18 rfl rfl)
theorem dX50_goes_114 : decode cX50_goes 114 = .ok (.iand, 1) := dk_126 (dk_at dksX50_goes_4 19 rfl rfl)
theorem dX50_goes_115 : decode cX50_goes 115 = .ok (.iconst 1, 1) := dk_4 (dk_at dksX50_goes_4 20 rfl rfl)
theorem dX50_goes_116 : decode cX50_goes 116 = .ok (.if_icmp .ne 7, 3) := dk_160 0 7 (dk_at dksX50_goes_4 21 rfl rfl)
theorem dX50_goes_119 : decode cX50_goes 119 = .ok (.iconst 1, 1) := dk_4 (dk_at dksX50_goes_5 0 rfl rfl)
theorem dX50_goes_120 : decode cX50_goes 120 = .ok (.goto 4, 3) := dk_167 0 4 (dk_at dksX50_goes_5 1 rfl rfl)
theorem dX50_goes_123 : decode cX50_goes 123 = .ok (.iconst 0, 1) := dk_3 (dk_at dksX50_goes_5 4 rfl rfl)
theorem dX50_goes_124 : decode cX50_goes 124 = .ok (.istore 6, 2) := dk_54 6 (dk_at dksX50_goes_5 5 rfl rfl)
theorem dX50_goes_126 : decode cX50_goes 126 = .ok (.iinc 9 1, 3) := dk_132 9 1 (dk_at dksX50_goes_5 7 rfl rfl)
theorem dX50_goes_129 : decode cX50_goes 129 = .ok (.goto (-80), 3) := dk_167 255 176 (dk_at dksX50_goes_5 10 rfl rfl)
theorem dX50_goes_132 : decode cX50_goes 132 = .ok (.iinc 7 1, 3) := dk_132 7 1 (dk_at dksX50_goes_5 13 rfl rfl)
theorem dX50_goes_135 : decode cX50_goes 135 = .ok (.goto (-122), 3) := dk_167 255 134 (dk_at dksX50_goes_5 16 rfl rfl)
theorem dX50_goes_138 : decode cX50_goes 138 = .ok (.iload 6, 2) := dk_21 6 (dk_at dksX50_goes_5 19 rfl rfl)
theorem dX50_goes_140 : decode cX50_goes 140 = .ok (.ireturn, 1) := dk_172 (dk_at dksX50_goes_5 21 rfl rfl)
abbrev cX50_freeze : ByteArray := prog_64_method_17_code
def yX50_freeze : MethodName := ⟨RX50, "freeze", "()V"⟩
def dkwX50_freeze_8 : List UInt8 := [132, 1, 1, 167, 255, 234, 177]
abbrev dktX50_freeze_8 : List UInt8 := dkwX50_freeze_8 ++ []
def dkwX50_freeze_7 : List UInt8 := [167, 255, 172, 3, 60, 27, 6, 162, 0, 23, 42, 180, 0, 16, 6, 27, 96, 42, 180, 0, 16, 27, 46, 79]
abbrev dktX50_freeze_7 : List UInt8 := dkwX50_freeze_7 ++ dktX50_freeze_8
def dkwX50_freeze_6 : List UInt8 := [180, 0, 34, 27, 46, 79, 42, 180, 0, 37, 16, 9, 27, 96, 42, 180, 0, 37, 27, 46, 79, 132, 1, 1]
abbrev dktX50_freeze_6 : List UInt8 := dkwX50_freeze_6 ++ dktX50_freeze_7
def dkwX50_freeze_5 : List UInt8 := [180, 0, 31, 16, 9, 27, 96, 42, 180, 0, 31, 27, 46, 79, 42, 180, 0, 34, 16, 9, 27, 96, 42]
abbrev dktX50_freeze_5 : List UInt8 := dkwX50_freeze_5 ++ dktX50_freeze_6
def dkwX50_freeze_4 : List UInt8 := [42, 180, 0, 19, 27, 46, 79, 42, 180, 0, 28, 16, 9, 27, 96, 42, 180, 0, 28, 27, 46, 79, 42]
abbrev dktX50_freeze_4 : List UInt8 := dkwX50_freeze_4 ++ dktX50_freeze_5
def dkwX50_freeze_3 : List UInt8 := [46, 79, 132, 1, 1, 167, 255, 217, 3, 60, 27, 16, 9, 162, 0, 84, 42, 180, 0, 19, 16, 9, 27, 96]
abbrev dktX50_freeze_3 : List UInt8 := dkwX50_freeze_3 ++ dktX50_freeze_4
def dkwX50_freeze_2 : List UInt8 := [16, 18, 27, 96, 42, 180, 0, 22, 27, 46, 79, 42, 180, 0, 25, 16, 18, 27, 96, 42, 180, 0, 25, 27]
abbrev dktX50_freeze_2 : List UInt8 := dkwX50_freeze_2 ++ dktX50_freeze_3
def dkwX50_freeze_1 : List UInt8 := [180, 0, 13, 4, 42, 180, 0, 13, 3, 46, 79, 3, 60, 27, 16, 18, 162, 0, 39, 42, 180, 0, 22]
abbrev dktX50_freeze_1 : List UInt8 := dkwX50_freeze_1 ++ dktX50_freeze_2
def dkwX50_freeze_0 : List UInt8 := [42, 180, 0, 94, 4, 92, 46, 4, 96, 79, 42, 180, 0, 7, 4, 42, 180, 0, 7, 3, 46, 79, 42]
abbrev dktX50_freeze_0 : List UInt8 := dkwX50_freeze_0 ++ dktX50_freeze_1
theorem dksX50_freeze_0 : cX50_freeze.data.toList.drop 0 = dktX50_freeze_0 := by decide +kernel
theorem dksX50_freeze_1 : cX50_freeze.data.toList.drop 23 = dktX50_freeze_1 := dk_seg dksX50_freeze_0 23 rfl rfl
theorem dksX50_freeze_2 : cX50_freeze.data.toList.drop 46 = dktX50_freeze_2 := dk_seg dksX50_freeze_1 23 rfl rfl
theorem dksX50_freeze_3 : cX50_freeze.data.toList.drop 70 = dktX50_freeze_3 := dk_seg dksX50_freeze_2 24 rfl rfl
theorem dksX50_freeze_4 : cX50_freeze.data.toList.drop 94 = dktX50_freeze_4 := dk_seg dksX50_freeze_3 24 rfl rfl
theorem dksX50_freeze_5 : cX50_freeze.data.toList.drop 117 = dktX50_freeze_5 := dk_seg dksX50_freeze_4 23 rfl rfl
theorem dksX50_freeze_6 : cX50_freeze.data.toList.drop 140 = dktX50_freeze_6 := dk_seg dksX50_freeze_5 23 rfl rfl
theorem dksX50_freeze_7 : cX50_freeze.data.toList.drop 164 = dktX50_freeze_7 := dk_seg dksX50_freeze_6 24 rfl rfl
theorem dksX50_freeze_8 : cX50_freeze.data.toList.drop 188 = dktX50_freeze_8 := dk_seg dksX50_freeze_7 24 rfl rfl
theorem dX50_freeze_0 : decode cX50_freeze 0 = .ok (.aload_n 0, 1) := dk_42 (dk_at dksX50_freeze_0 0 rfl rfl)
theorem dX50_freeze_1 : decode cX50_freeze 1 = .ok (.getfield 94, 3) := dk_180 0 94 (dk_at dksX50_freeze_0 1 rfl rfl)
theorem dX50_freeze_4 : decode cX50_freeze 4 = .ok (.iconst 1, 1) := dk_4 (dk_at dksX50_freeze_0 4 rfl rfl)
theorem dX50_freeze_5 : decode cX50_freeze 5 = .ok (.dup2, 1) := dk_92 (dk_at dksX50_freeze_0 5 rfl rfl)
theorem dX50_freeze_6 : decode cX50_freeze 6 = .ok (.iaload, 1) := dk_46 (dk_at dksX50_freeze_0 6 rfl rfl)
theorem dX50_freeze_7 : decode cX50_freeze 7 = .ok (.iconst 1, 1) := dk_4 (dk_at dksX50_freeze_0 7 rfl rfl)
theorem dX50_freeze_8 : decode cX50_freeze 8 = .ok (.iadd, 1) := dk_96 (dk_at dksX50_freeze_0 8 rfl rfl)
theorem dX50_freeze_9 : decode cX50_freeze 9 = .ok (.iastore, 1) := dk_79 (dk_at dksX50_freeze_0 9 rfl rfl)
theorem dX50_freeze_10 : decode cX50_freeze 10 = .ok (.aload_n 0, 1) := dk_42 (dk_at dksX50_freeze_0 10 rfl rfl)
theorem dX50_freeze_11 : decode cX50_freeze 11 = .ok (.getfield 7, 3) := dk_180 0 7 (dk_at dksX50_freeze_0 11 rfl rfl)
theorem dX50_freeze_14 : decode cX50_freeze 14 = .ok (.iconst 1, 1) := dk_4 (dk_at dksX50_freeze_0 14 rfl rfl)
theorem dX50_freeze_15 : decode cX50_freeze 15 = .ok (.aload_n 0, 1) := dk_42 (dk_at dksX50_freeze_0 15 rfl rfl)
theorem dX50_freeze_16 : decode cX50_freeze 16 = .ok (.getfield 7, 3) := dk_180 0 7 (dk_at dksX50_freeze_0 16 rfl rfl)
theorem dX50_freeze_19 : decode cX50_freeze 19 = .ok (.iconst 0, 1) := dk_3 (dk_at dksX50_freeze_0 19 rfl rfl)
theorem dX50_freeze_20 : decode cX50_freeze 20 = .ok (.iaload, 1) := dk_46 (dk_at dksX50_freeze_0 20 rfl rfl)
theorem dX50_freeze_21 : decode cX50_freeze 21 = .ok (.iastore, 1) := dk_79 (dk_at dksX50_freeze_0 21 rfl rfl)
theorem dX50_freeze_22 : decode cX50_freeze 22 = .ok (.aload_n 0, 1) := dk_42 (dk_at dksX50_freeze_0 22 rfl rfl)
theorem dX50_freeze_23 : decode cX50_freeze 23 = .ok (.getfield 13, 3) := dk_180 0 13 (dk_at dksX50_freeze_1 0 rfl rfl)
theorem dX50_freeze_26 : decode cX50_freeze 26 = .ok (.iconst 1, 1) := dk_4 (dk_at dksX50_freeze_1 3 rfl rfl)
theorem dX50_freeze_27 : decode cX50_freeze 27 = .ok (.aload_n 0, 1) := dk_42 (dk_at dksX50_freeze_1 4 rfl rfl)
theorem dX50_freeze_28 : decode cX50_freeze 28 = .ok (.getfield 13, 3) := dk_180 0 13 (dk_at dksX50_freeze_1 5 rfl rfl)
theorem dX50_freeze_31 : decode cX50_freeze 31 = .ok (.iconst 0, 1) := dk_3 (dk_at dksX50_freeze_1 8 rfl rfl)
theorem dX50_freeze_32 : decode cX50_freeze 32 = .ok (.iaload, 1) := dk_46 (dk_at dksX50_freeze_1 9 rfl rfl)
theorem dX50_freeze_33 : decode cX50_freeze 33 = .ok (.iastore, 1) := dk_79 (dk_at dksX50_freeze_1 10 rfl rfl)
theorem dX50_freeze_34 : decode cX50_freeze 34 = .ok (.iconst 0, 1) := dk_3 (dk_at dksX50_freeze_1 11 rfl rfl)
theorem dX50_freeze_35 : decode cX50_freeze 35 = .ok (.istore_n 1, 1) := dk_60 (dk_at dksX50_freeze_1 12 rfl rfl)
theorem dX50_freeze_36 : decode cX50_freeze 36 = .ok (.iload_n 1, 1) := dk_27 (dk_at dksX50_freeze_1 13 rfl rfl)
theorem dX50_freeze_37 : decode cX50_freeze 37 = .ok (.bipush 18, 2) := dk_16 18 (dk_at dksX50_freeze_1 14 rfl rfl)
theorem dX50_freeze_39 : decode cX50_freeze 39 = .ok (.if_icmp .ge 39, 3) := dk_162 0 39 (dk_at dksX50_freeze_1 16 rfl rfl)
theorem dX50_freeze_42 : decode cX50_freeze 42 = .ok (.aload_n 0, 1) := dk_42 (dk_at dksX50_freeze_1 19 rfl rfl)
theorem dX50_freeze_43 : decode cX50_freeze 43 = .ok (.getfield 22, 3) := dk_180 0 22 (dk_at dksX50_freeze_1 20 rfl rfl)
theorem dX50_freeze_46 : decode cX50_freeze 46 = .ok (.bipush 18, 2) := dk_16 18 (dk_at dksX50_freeze_2 0 rfl rfl)
theorem dX50_freeze_48 : decode cX50_freeze 48 = .ok (.iload_n 1, 1) := dk_27 (dk_at dksX50_freeze_2 2 rfl rfl)
theorem dX50_freeze_49 : decode cX50_freeze 49 = .ok (.iadd, 1) := dk_96 (dk_at dksX50_freeze_2 3 rfl rfl)
theorem dX50_freeze_50 : decode cX50_freeze 50 = .ok (.aload_n 0, 1) := dk_42 (dk_at dksX50_freeze_2 4 rfl rfl)
theorem dX50_freeze_51 : decode cX50_freeze 51 = .ok (.getfield 22, 3) := dk_180 0 22 (dk_at dksX50_freeze_2 5 rfl rfl)
theorem dX50_freeze_54 : decode cX50_freeze 54 = .ok (.iload_n 1, 1) := dk_27 (dk_at dksX50_freeze_2 8 rfl rfl)
theorem dX50_freeze_55 : decode cX50_freeze 55 = .ok (.iaload, 1) := dk_46 (dk_at dksX50_freeze_2 9 rfl rfl)
theorem dX50_freeze_56 : decode cX50_freeze 56 = .ok (.iastore, 1) := dk_79 (dk_at dksX50_freeze_2 10 rfl rfl)
theorem dX50_freeze_57 : decode cX50_freeze 57 = .ok (.aload_n 0, 1) := dk_42 (dk_at dksX50_freeze_2 11 rfl rfl)
theorem dX50_freeze_58 : decode cX50_freeze 58 = .ok (.getfield 25, 3) := dk_180 0 25 (dk_at dksX50_freeze_2 12 rfl rfl)
theorem dX50_freeze_61 : decode cX50_freeze 61 = .ok (.bipush 18, 2) := dk_16 18 (dk_at dksX50_freeze_2 15 rfl rfl)
theorem dX50_freeze_63 : decode cX50_freeze 63 = .ok (.iload_n 1, 1) := dk_27 (dk_at dksX50_freeze_2 17 rfl rfl)
theorem dX50_freeze_64 : decode cX50_freeze 64 = .ok (.iadd, 1) := dk_96 (dk_at dksX50_freeze_2 18 rfl rfl)
theorem dX50_freeze_65 : decode cX50_freeze 65 = .ok (.aload_n 0, 1) := dk_42 (dk_at dksX50_freeze_2 19 rfl rfl)
theorem dX50_freeze_66 : decode cX50_freeze 66 = .ok (.getfield 25, 3) := dk_180 0 25 (dk_at dksX50_freeze_2 20 rfl rfl)
theorem dX50_freeze_69 : decode cX50_freeze 69 = .ok (.iload_n 1, 1) := dk_27 (dk_at dksX50_freeze_2 23 rfl rfl)
theorem dX50_freeze_70 : decode cX50_freeze 70 = .ok (.iaload, 1) := dk_46 (dk_at dksX50_freeze_3 0 rfl rfl)
theorem dX50_freeze_71 : decode cX50_freeze 71 = .ok (.iastore, 1) := dk_79 (dk_at dksX50_freeze_3 1 rfl rfl)
theorem dX50_freeze_72 : decode cX50_freeze 72 = .ok (.iinc 1 1, 3) := dk_132 1 1 (dk_at dksX50_freeze_3 2 rfl rfl)
theorem dX50_freeze_75 : decode cX50_freeze 75 = .ok (.goto (-39), 3) := dk_167 255 217 (dk_at dksX50_freeze_3 5 rfl rfl)
theorem dX50_freeze_78 : decode cX50_freeze 78 = .ok (.iconst 0, 1) := dk_3 (dk_at dksX50_freeze_3 8 rfl rfl)
theorem dX50_freeze_79 : decode cX50_freeze 79 = .ok (.istore_n 1, 1) := dk_60 (dk_at dksX50_freeze_3 9 rfl rfl)
theorem dX50_freeze_80 : decode cX50_freeze 80 = .ok (.iload_n 1, 1) := dk_27 (dk_at dksX50_freeze_3 10 rfl rfl)
theorem dX50_freeze_81 : decode cX50_freeze 81 = .ok (.bipush 9, 2) := dk_16 9 (dk_at dksX50_freeze_3 11 rfl rfl)
theorem dX50_freeze_83 : decode cX50_freeze 83 = .ok (.if_icmp .ge 84, 3) := dk_162 0 84 (dk_at dksX50_freeze_3 13 rfl rfl)
theorem dX50_freeze_86 : decode cX50_freeze 86 = .ok (.aload_n 0, 1) := dk_42 (dk_at dksX50_freeze_3 16 rfl rfl)
theorem dX50_freeze_87 : decode cX50_freeze 87 = .ok (.getfield 19, 3) := dk_180 0 19 (dk_at dksX50_freeze_3 17 rfl rfl)
theorem dX50_freeze_90 : decode cX50_freeze 90 = .ok (.bipush 9, 2) := dk_16 9 (dk_at dksX50_freeze_3 20 rfl rfl)
theorem dX50_freeze_92 : decode cX50_freeze 92 = .ok (.iload_n 1, 1) := dk_27 (dk_at dksX50_freeze_3 22 rfl rfl)
theorem dX50_freeze_93 : decode cX50_freeze 93 = .ok (.iadd, 1) := dk_96 (dk_at dksX50_freeze_3 23 rfl rfl)
theorem dX50_freeze_94 : decode cX50_freeze 94 = .ok (.aload_n 0, 1) := dk_42 (dk_at dksX50_freeze_4 0 rfl rfl)
theorem dX50_freeze_95 : decode cX50_freeze 95 = .ok (.getfield 19, 3) := dk_180 0 19 (dk_at dksX50_freeze_4 1 rfl rfl)
theorem dX50_freeze_98 : decode cX50_freeze 98 = .ok (.iload_n 1, 1) := dk_27 (dk_at dksX50_freeze_4 4 rfl rfl)
theorem dX50_freeze_99 : decode cX50_freeze 99 = .ok (.iaload, 1) := dk_46 (dk_at dksX50_freeze_4 5 rfl rfl)
theorem dX50_freeze_100 : decode cX50_freeze 100 = .ok (.iastore, 1) := dk_79 (dk_at dksX50_freeze_4 6 rfl rfl)
theorem dX50_freeze_101 : decode cX50_freeze 101 = .ok (.aload_n 0, 1) := dk_42 (dk_at dksX50_freeze_4 7 rfl rfl)
theorem dX50_freeze_102 : decode cX50_freeze 102 = .ok (.getfield 28, 3) := dk_180 0 28 (dk_at dksX50_freeze_4 8 rfl rfl)
theorem dX50_freeze_105 : decode cX50_freeze 105 = .ok (.bipush 9, 2) := dk_16 9 (dk_at dksX50_freeze_4 11 rfl rfl)
theorem dX50_freeze_107 : decode cX50_freeze 107 = .ok (.iload_n 1, 1) := dk_27 (dk_at dksX50_freeze_4 13 rfl rfl)
theorem dX50_freeze_108 : decode cX50_freeze 108 = .ok (.iadd, 1) := dk_96 (dk_at dksX50_freeze_4 14 rfl rfl)
theorem dX50_freeze_109 : decode cX50_freeze 109 = .ok (.aload_n 0, 1) := dk_42 (dk_at dksX50_freeze_4 15 rfl rfl)
theorem dX50_freeze_110 : decode cX50_freeze 110 = .ok (.getfield 28, 3) := dk_180 0 28 (dk_at dksX50_freeze_4 16 rfl rfl)
theorem dX50_freeze_113 : decode cX50_freeze 113 = .ok (.iload_n 1, 1) := dk_27 (dk_at dksX50_freeze_4 19 rfl rfl)
theorem dX50_freeze_114 : decode cX50_freeze 114 = .ok (.iaload, 1) := dk_46 (dk_at dksX50_freeze_4 20 rfl rfl)
theorem dX50_freeze_115 : decode cX50_freeze 115 = .ok (.iastore, 1) := dk_79 (dk_at dksX50_freeze_4 21 rfl rfl)
theorem dX50_freeze_116 : decode cX50_freeze 116 = .ok (.aload_n 0, 1) := dk_42 (dk_at dksX50_freeze_4 22 rfl rfl)
theorem dX50_freeze_117 : decode cX50_freeze 117 = .ok (.getfield 31, 3) := dk_180 0 31 (dk_at dksX50_freeze_5 0 rfl rfl)
theorem dX50_freeze_120 : decode cX50_freeze 120 = .ok (.bipush 9, 2) := dk_16 9 (dk_at dksX50_freeze_5 3 rfl rfl)
theorem dX50_freeze_122 : decode cX50_freeze 122 = .ok (.iload_n 1, 1) := dk_27 (dk_at dksX50_freeze_5 5 rfl rfl)
theorem dX50_freeze_123 : decode cX50_freeze 123 = .ok (.iadd, 1) := dk_96 (dk_at dksX50_freeze_5 6 rfl rfl)
theorem dX50_freeze_124 : decode cX50_freeze 124 = .ok (.aload_n 0, 1) := dk_42 (dk_at dksX50_freeze_5 7 rfl rfl)
theorem dX50_freeze_125 : decode cX50_freeze 125 = .ok (.getfield 31, 3) := dk_180 0 31 (dk_at dksX50_freeze_5 8 rfl rfl)
theorem dX50_freeze_128 : decode cX50_freeze 128 = .ok (.iload_n 1, 1) := dk_27 (dk_at dksX50_freeze_5 11 rfl rfl)
theorem dX50_freeze_129 : decode cX50_freeze 129 = .ok (.iaload, 1) := dk_46 (dk_at dksX50_freeze_5 12 rfl rfl)
theorem dX50_freeze_130 : decode cX50_freeze 130 = .ok (.iastore, 1) := dk_79 (dk_at dksX50_freeze_5 13 rfl rfl)
theorem dX50_freeze_131 : decode cX50_freeze 131 = .ok (.aload_n 0, 1) := dk_42 (dk_at dksX50_freeze_5 14 rfl rfl)
theorem dX50_freeze_132 : decode cX50_freeze 132 = .ok (.getfield 34, 3) := dk_180 0 34 (dk_at dksX50_freeze_5 15 rfl rfl)
theorem dX50_freeze_135 : decode cX50_freeze 135 = .ok (.bipush 9, 2) := dk_16 9 (dk_at dksX50_freeze_5 18 rfl rfl)
theorem dX50_freeze_137 : decode cX50_freeze 137 = .ok (.iload_n 1, 1) := dk_27 (dk_at dksX50_freeze_5 20 rfl rfl)
theorem dX50_freeze_138 : decode cX50_freeze 138 = .ok (.iadd, 1) := dk_96 (dk_at dksX50_freeze_5 21 rfl rfl)
theorem dX50_freeze_139 : decode cX50_freeze 139 = .ok (.aload_n 0, 1) := dk_42 (dk_at dksX50_freeze_5 22 rfl rfl)
theorem dX50_freeze_140 : decode cX50_freeze 140 = .ok (.getfield 34, 3) := dk_180 0 34 (dk_at dksX50_freeze_6 0 rfl rfl)
theorem dX50_freeze_143 : decode cX50_freeze 143 = .ok (.iload_n 1, 1) := dk_27 (dk_at dksX50_freeze_6 3 rfl rfl)
theorem dX50_freeze_144 : decode cX50_freeze 144 = .ok (.iaload, 1) := dk_46 (dk_at dksX50_freeze_6 4 rfl rfl)
theorem dX50_freeze_145 : decode cX50_freeze 145 = .ok (.iastore, 1) := dk_79 (dk_at dksX50_freeze_6 5 rfl rfl)
theorem dX50_freeze_146 : decode cX50_freeze 146 = .ok (.aload_n 0, 1) := dk_42 (dk_at dksX50_freeze_6 6 rfl rfl)
theorem dX50_freeze_147 : decode cX50_freeze 147 = .ok (.getfield 37, 3) := dk_180 0 37 (dk_at dksX50_freeze_6 7 rfl rfl)
theorem dX50_freeze_150 : decode cX50_freeze 150 = .ok (.bipush 9, 2) := dk_16 9 (dk_at dksX50_freeze_6 10 rfl rfl)
theorem dX50_freeze_152 : decode cX50_freeze 152 = .ok (.iload_n 1, 1) := dk_27 (dk_at dksX50_freeze_6 12 rfl rfl)
theorem dX50_freeze_153 : decode cX50_freeze 153 = .ok (.iadd, 1) := dk_96 (dk_at dksX50_freeze_6 13 rfl rfl)
theorem dX50_freeze_154 : decode cX50_freeze 154 = .ok (.aload_n 0, 1) := dk_42 (dk_at dksX50_freeze_6 14 rfl rfl)
theorem dX50_freeze_155 : decode cX50_freeze 155 = .ok (.getfield 37, 3) := dk_180 0 37 (dk_at dksX50_freeze_6 15 rfl rfl)
theorem dX50_freeze_158 : decode cX50_freeze 158 = .ok (.iload_n 1, 1) := dk_27 (dk_at dksX50_freeze_6 18 rfl rfl)
theorem dX50_freeze_159 : decode cX50_freeze 159 = .ok (.iaload, 1) := dk_46 (dk_at dksX50_freeze_6 19 rfl rfl)
theorem dX50_freeze_160 : decode cX50_freeze 160 = .ok (.iastore, 1) := dk_79 (dk_at dksX50_freeze_6 20 rfl rfl)
theorem dX50_freeze_161 : decode cX50_freeze 161 = .ok (.iinc 1 1, 3) := dk_132 1 1 (dk_at dksX50_freeze_6 21 rfl rfl)
theorem dX50_freeze_164 : decode cX50_freeze 164 = .ok (.goto (-84), 3) := dk_167 255 172 (dk_at dksX50_freeze_7 0 rfl rfl)
theorem dX50_freeze_167 : decode cX50_freeze 167 = .ok (.iconst 0, 1) := dk_3 (dk_at dksX50_freeze_7 3 rfl rfl)
theorem dX50_freeze_168 : decode cX50_freeze 168 = .ok (.istore_n 1, 1) := dk_60 (dk_at dksX50_freeze_7 4 rfl rfl)
theorem dX50_freeze_169 : decode cX50_freeze 169 = .ok (.iload_n 1, 1) := dk_27 (dk_at dksX50_freeze_7 5 rfl rfl)
theorem dX50_freeze_170 : decode cX50_freeze 170 = .ok (.iconst 3, 1) := dk_6 (dk_at dksX50_freeze_7 6 rfl rfl)
theorem dX50_freeze_171 : decode cX50_freeze 171 = .ok (.if_icmp .ge 23, 3) := dk_162 0 23 (dk_at dksX50_freeze_7 7 rfl rfl)
theorem dX50_freeze_174 : decode cX50_freeze 174 = .ok (.aload_n 0, 1) := dk_42 (dk_at dksX50_freeze_7 10 rfl rfl)
theorem dX50_freeze_175 : decode cX50_freeze 175 = .ok (.getfield 16, 3) := dk_180 0 16 (dk_at dksX50_freeze_7 11 rfl rfl)
theorem dX50_freeze_178 : decode cX50_freeze 178 = .ok (.iconst 3, 1) := dk_6 (dk_at dksX50_freeze_7 14 rfl rfl)
theorem dX50_freeze_179 : decode cX50_freeze 179 = .ok (.iload_n 1, 1) := dk_27 (dk_at dksX50_freeze_7 15 rfl rfl)
theorem dX50_freeze_180 : decode cX50_freeze 180 = .ok (.iadd, 1) := dk_96 (dk_at dksX50_freeze_7 16 rfl rfl)
theorem dX50_freeze_181 : decode cX50_freeze 181 = .ok (.aload_n 0, 1) := dk_42 (dk_at dksX50_freeze_7 17 rfl rfl)
theorem dX50_freeze_182 : decode cX50_freeze 182 = .ok (.getfield 16, 3) := dk_180 0 16 (dk_at dksX50_freeze_7 18 rfl rfl)
theorem dX50_freeze_185 : decode cX50_freeze 185 = .ok (.iload_n 1, 1) := dk_27 (dk_at dksX50_freeze_7 21 rfl rfl)
theorem dX50_freeze_186 : decode cX50_freeze 186 = .ok (.iaload, 1) := dk_46 (dk_at dksX50_freeze_7 22 rfl rfl)
theorem dX50_freeze_187 : decode cX50_freeze 187 = .ok (.iastore, 1) := dk_79 (dk_at dksX50_freeze_7 23 rfl rfl)
theorem dX50_freeze_188 : decode cX50_freeze 188 = .ok (.iinc 1 1, 3) := dk_132 1 1 (dk_at dksX50_freeze_8 0 rfl rfl)
theorem dX50_freeze_191 : decode cX50_freeze 191 = .ok (.goto (-22), 3) := dk_167 255 234 (dk_at dksX50_freeze_8 3 rfl rfl)
theorem dX50_freeze_194 : decode cX50_freeze 194 = .ok (.return_, 1) := dk_177 (dk_at dksX50_freeze_8 6 rfl rfl)
abbrev cX50_out : ByteArray := prog_64_method_52_code
def yX50_out : MethodName := ⟨RX50, "out", "(III)J"⟩
def dkwX50_out_2 : List UInt8 := [182, 1, 10, 42, 4, 27, 28, 182, 1, 13, 42, 4, 3, 182, 1, 16, 42, 29, 3, 182, 1, 19, 173]
abbrev dktX50_out_2 : List UInt8 := dkwX50_out_2 ++ []
def dkwX50_out_1 : List UInt8 := [182, 0, 133, 153, 0, 13, 29, 155, 0, 9, 29, 16, 6, 164, 0, 7, 20, 0, 223, 173, 42, 4]
abbrev dktX50_out_1 : List UInt8 := dkwX50_out_1 ++ dktX50_out_2
def dkwX50_out_0 : List UInt8 := [42, 180, 1, 4, 153, 0, 35, 27, 155, 0, 31, 27, 42, 180, 0, 13, 4, 46, 162, 0, 21, 42, 28]
abbrev dktX50_out_0 : List UInt8 := dkwX50_out_0 ++ dktX50_out_1
theorem dksX50_out_0 : cX50_out.data.toList.drop 0 = dktX50_out_0 := by decide +kernel
theorem dksX50_out_1 : cX50_out.data.toList.drop 23 = dktX50_out_1 := dk_seg dksX50_out_0 23 rfl rfl
theorem dksX50_out_2 : cX50_out.data.toList.drop 45 = dktX50_out_2 := dk_seg dksX50_out_1 22 rfl rfl
theorem dX50_out_0 : decode cX50_out 0 = .ok (.aload_n 0, 1) := dk_42 (dk_at dksX50_out_0 0 rfl rfl)
theorem dX50_out_1 : decode cX50_out 1 = .ok (.getfield 260, 3) := dk_180 1 4 (dk_at dksX50_out_0 1 rfl rfl)
theorem dX50_out_4 : decode cX50_out 4 = .ok (.ifCond .eq 35, 3) := dk_153 0 35 (dk_at dksX50_out_0 4 rfl rfl)
theorem dX50_out_7 : decode cX50_out 7 = .ok (.iload_n 1, 1) := dk_27 (dk_at dksX50_out_0 7 rfl rfl)
theorem dX50_out_8 : decode cX50_out 8 = .ok (.ifCond .lt 31, 3) := dk_155 0 31 (dk_at dksX50_out_0 8 rfl rfl)
theorem dX50_out_11 : decode cX50_out 11 = .ok (.iload_n 1, 1) := dk_27 (dk_at dksX50_out_0 11 rfl rfl)
theorem dX50_out_12 : decode cX50_out 12 = .ok (.aload_n 0, 1) := dk_42 (dk_at dksX50_out_0 12 rfl rfl)
theorem dX50_out_13 : decode cX50_out 13 = .ok (.getfield 13, 3) := dk_180 0 13 (dk_at dksX50_out_0 13 rfl rfl)
theorem dX50_out_16 : decode cX50_out 16 = .ok (.iconst 1, 1) := dk_4 (dk_at dksX50_out_0 16 rfl rfl)
theorem dX50_out_17 : decode cX50_out 17 = .ok (.iaload, 1) := dk_46 (dk_at dksX50_out_0 17 rfl rfl)
theorem dX50_out_18 : decode cX50_out 18 = .ok (.if_icmp .ge 21, 3) := dk_162 0 21 (dk_at dksX50_out_0 18 rfl rfl)
theorem dX50_out_21 : decode cX50_out 21 = .ok (.aload_n 0, 1) := dk_42 (dk_at dksX50_out_0 21 rfl rfl)
theorem dX50_out_22 : decode cX50_out 22 = .ok (.iload_n 2, 1) := dk_28 (dk_at dksX50_out_0 22 rfl rfl)
theorem dX50_out_23 : decode cX50_out 23 = .ok (.invokevirtual 133, 3) := dk_182 0 133 (dk_at dksX50_out_1 0 rfl rfl)
theorem dX50_out_26 : decode cX50_out 26 = .ok (.ifCond .eq 13, 3) := dk_153 0 13 (dk_at dksX50_out_1 3 rfl rfl)
theorem dX50_out_29 : decode cX50_out 29 = .ok (.iload_n 3, 1) := dk_29 (dk_at dksX50_out_1 6 rfl rfl)
theorem dX50_out_30 : decode cX50_out 30 = .ok (.ifCond .lt 9, 3) := dk_155 0 9 (dk_at dksX50_out_1 7 rfl rfl)
theorem dX50_out_33 : decode cX50_out 33 = .ok (.iload_n 3, 1) := dk_29 (dk_at dksX50_out_1 10 rfl rfl)
theorem dX50_out_34 : decode cX50_out 34 = .ok (.bipush 6, 2) := dk_16 6 (dk_at dksX50_out_1 11 rfl rfl)
theorem dX50_out_36 : decode cX50_out 36 = .ok (.if_icmp .le 7, 3) := dk_164 0 7 (dk_at dksX50_out_1 13 rfl rfl)
theorem dX50_out_39 : decode cX50_out 39 = .ok (.ldc2_w 223, 3) := dk_20 0 223 (dk_at dksX50_out_1 16 rfl rfl)
theorem dX50_out_42 : decode cX50_out 42 = .ok (.lreturn, 1) := dk_173 (dk_at dksX50_out_1 19 rfl rfl)
theorem dX50_out_43 : decode cX50_out 43 = .ok (.aload_n 0, 1) := dk_42 (dk_at dksX50_out_1 20 rfl rfl)
theorem dX50_out_44 : decode cX50_out 44 = .ok (.iconst 1, 1) := dk_4 (dk_at dksX50_out_1 21 rfl rfl)
theorem dX50_out_45 : decode cX50_out 45 = .ok (.invokevirtual 266, 3) := dk_182 1 10 (dk_at dksX50_out_2 0 rfl rfl)
theorem dX50_out_48 : decode cX50_out 48 = .ok (.aload_n 0, 1) := dk_42 (dk_at dksX50_out_2 3 rfl rfl)
theorem dX50_out_49 : decode cX50_out 49 = .ok (.iconst 1, 1) := dk_4 (dk_at dksX50_out_2 4 rfl rfl)
theorem dX50_out_50 : decode cX50_out 50 = .ok (.iload_n 1, 1) := dk_27 (dk_at dksX50_out_2 5 rfl rfl)
theorem dX50_out_51 : decode cX50_out 51 = .ok (.iload_n 2, 1) := dk_28 (dk_at dksX50_out_2 6 rfl rfl)
theorem dX50_out_52 : decode cX50_out 52 = .ok (.invokevirtual 269, 3) := dk_182 1 13 (dk_at dksX50_out_2 7 rfl rfl)
theorem dX50_out_55 : decode cX50_out 55 = .ok (.aload_n 0, 1) := dk_42 (dk_at dksX50_out_2 10 rfl rfl)
theorem dX50_out_56 : decode cX50_out 56 = .ok (.iconst 1, 1) := dk_4 (dk_at dksX50_out_2 11 rfl rfl)
theorem dX50_out_57 : decode cX50_out 57 = .ok (.iconst 0, 1) := dk_3 (dk_at dksX50_out_2 12 rfl rfl)
theorem dX50_out_58 : decode cX50_out 58 = .ok (.invokevirtual 272, 3) := dk_182 1 16 (dk_at dksX50_out_2 13 rfl rfl)
theorem dX50_out_61 : decode cX50_out 61 = .ok (.aload_n 0, 1) := dk_42 (dk_at dksX50_out_2 16 rfl rfl)
theorem dX50_out_62 : decode cX50_out 62 = .ok (.iload_n 3, 1) := dk_29 (dk_at dksX50_out_2 17 rfl rfl)
theorem dX50_out_63 : decode cX50_out 63 = .ok (.iconst 0, 1) := dk_3 (dk_at dksX50_out_2 18 rfl rfl)
theorem dX50_out_64 : decode cX50_out 64 = .ok (.invokevirtual 275, 3) := dk_182 1 19 (dk_at dksX50_out_2 19 rfl rfl)
theorem dX50_out_67 : decode cX50_out 67 = .ok (.lreturn, 1) := dk_173 (dk_at dksX50_out_2 22 rfl rfl)
abbrev cX50_prepare : ByteArray := prog_64_method_50_code
def yX50_prepare : MethodName := ⟨RX50, "prepare", "(I)V"⟩
def dkwX50_prepare_2 : List UInt8 := [182, 0, 251, 42, 182, 0, 254, 177]
abbrev dktX50_prepare_2 : List UInt8 := dkwX50_prepare_2 ++ []
def dkwX50_prepare_1 : List UInt8 := [159, 0, 22, 42, 182, 0, 248, 42, 27, 181, 0, 90, 42, 42, 180, 0, 94, 27, 46, 181, 0, 245, 42, 4]
abbrev dktX50_prepare_1 : List UInt8 := dkwX50_prepare_1 ++ dktX50_prepare_2
def dkwX50_prepare_0 : List UInt8 := [42, 27, 182, 0, 242, 42, 180, 0, 90, 27, 160, 0, 16, 42, 180, 0, 245, 42, 180, 0, 94, 27, 46]
abbrev dktX50_prepare_0 : List UInt8 := dkwX50_prepare_0 ++ dktX50_prepare_1
theorem dksX50_prepare_0 : cX50_prepare.data.toList.drop 0 = dktX50_prepare_0 := by decide +kernel
theorem dksX50_prepare_1 : cX50_prepare.data.toList.drop 23 = dktX50_prepare_1 := dk_seg dksX50_prepare_0 23 rfl rfl
theorem dksX50_prepare_2 : cX50_prepare.data.toList.drop 47 = dktX50_prepare_2 := dk_seg dksX50_prepare_1 24 rfl rfl
theorem dX50_prepare_0 : decode cX50_prepare 0 = .ok (.aload_n 0, 1) := dk_42 (dk_at dksX50_prepare_0 0 rfl rfl)
theorem dX50_prepare_1 : decode cX50_prepare 1 = .ok (.iload_n 1, 1) := dk_27 (dk_at dksX50_prepare_0 1 rfl rfl)
theorem dX50_prepare_2 : decode cX50_prepare 2 = .ok (.invokevirtual 242, 3) := dk_182 0 242 (dk_at dksX50_prepare_0 2 rfl rfl)
theorem dX50_prepare_5 : decode cX50_prepare 5 = .ok (.aload_n 0, 1) := dk_42 (dk_at dksX50_prepare_0 5 rfl rfl)
theorem dX50_prepare_6 : decode cX50_prepare 6 = .ok (.getfield 90, 3) := dk_180 0 90 (dk_at dksX50_prepare_0 6 rfl rfl)
theorem dX50_prepare_9 : decode cX50_prepare 9 = .ok (.iload_n 1, 1) := dk_27 (dk_at dksX50_prepare_0 9 rfl rfl)
theorem dX50_prepare_10 : decode cX50_prepare 10 = .ok (.if_icmp .ne 16, 3) := dk_160 0 16 (dk_at dksX50_prepare_0 10 rfl rfl)
theorem dX50_prepare_13 : decode cX50_prepare 13 = .ok (.aload_n 0, 1) := dk_42 (dk_at dksX50_prepare_0 13 rfl rfl)
theorem dX50_prepare_14 : decode cX50_prepare 14 = .ok (.getfield 245, 3) := dk_180 0 245 (dk_at dksX50_prepare_0 14 rfl rfl)
theorem dX50_prepare_17 : decode cX50_prepare 17 = .ok (.aload_n 0, 1) := dk_42 (dk_at dksX50_prepare_0 17 rfl rfl)
theorem dX50_prepare_18 : decode cX50_prepare 18 = .ok (.getfield 94, 3) := dk_180 0 94 (dk_at dksX50_prepare_0 18 rfl rfl)
theorem dX50_prepare_21 : decode cX50_prepare 21 = .ok (.iload_n 1, 1) := dk_27 (dk_at dksX50_prepare_0 21 rfl rfl)
theorem dX50_prepare_22 : decode cX50_prepare 22 = .ok (.iaload, 1) := dk_46 (dk_at dksX50_prepare_0 22 rfl rfl)
theorem dX50_prepare_23 : decode cX50_prepare 23 = .ok (.if_icmp .eq 22, 3) := dk_159 0 22 (dk_at dksX50_prepare_1 0 rfl rfl)
theorem dX50_prepare_26 : decode cX50_prepare 26 = .ok (.aload_n 0, 1) := dk_42 (dk_at dksX50_prepare_1 3 rfl rfl)
theorem dX50_prepare_27 : decode cX50_prepare 27 = .ok (.invokevirtual 248, 3) := dk_182 0 248 (dk_at dksX50_prepare_1 4 rfl rfl)
theorem dX50_prepare_30 : decode cX50_prepare 30 = .ok (.aload_n 0, 1) := dk_42 (dk_at dksX50_prepare_1 7 rfl rfl)
theorem dX50_prepare_31 : decode cX50_prepare 31 = .ok (.iload_n 1, 1) := dk_27 (dk_at dksX50_prepare_1 8 rfl rfl)
theorem dX50_prepare_32 : decode cX50_prepare 32 = .ok (.putfield 90, 3) := dk_181 0 90 (dk_at dksX50_prepare_1 9 rfl rfl)
theorem dX50_prepare_35 : decode cX50_prepare 35 = .ok (.aload_n 0, 1) := dk_42 (dk_at dksX50_prepare_1 12 rfl rfl)
theorem dX50_prepare_36 : decode cX50_prepare 36 = .ok (.aload_n 0, 1) := dk_42 (dk_at dksX50_prepare_1 13 rfl rfl)
theorem dX50_prepare_37 : decode cX50_prepare 37 = .ok (.getfield 94, 3) := dk_180 0 94 (dk_at dksX50_prepare_1 14 rfl rfl)
theorem dX50_prepare_40 : decode cX50_prepare 40 = .ok (.iload_n 1, 1) := dk_27 (dk_at dksX50_prepare_1 17 rfl rfl)
theorem dX50_prepare_41 : decode cX50_prepare 41 = .ok (.iaload, 1) := dk_46 (dk_at dksX50_prepare_1 18 rfl rfl)
theorem dX50_prepare_42 : decode cX50_prepare 42 = .ok (.putfield 245, 3) := dk_181 0 245 (dk_at dksX50_prepare_1 19 rfl rfl)
theorem dX50_prepare_45 : decode cX50_prepare 45 = .ok (.aload_n 0, 1) := dk_42 (dk_at dksX50_prepare_1 22 rfl rfl)
theorem dX50_prepare_46 : decode cX50_prepare 46 = .ok (.iconst 1, 1) := dk_4 (dk_at dksX50_prepare_1 23 rfl rfl)
theorem dX50_prepare_47 : decode cX50_prepare 47 = .ok (.invokevirtual 251, 3) := dk_182 0 251 (dk_at dksX50_prepare_2 0 rfl rfl)
theorem dX50_prepare_50 : decode cX50_prepare 50 = .ok (.aload_n 0, 1) := dk_42 (dk_at dksX50_prepare_2 3 rfl rfl)
theorem dX50_prepare_51 : decode cX50_prepare 51 = .ok (.invokevirtual 254, 3) := dk_182 0 254 (dk_at dksX50_prepare_2 4 rfl rfl)
theorem dX50_prepare_54 : decode cX50_prepare 54 = .ok (.return_, 1) := dk_177 (dk_at dksX50_prepare_2 7 rfl rfl)
abbrev cX50_turn : ByteArray := prog_64_method_27_code
def yX50_turn : MethodName := ⟨RX50, "turn", "()V"⟩
def dkwX50_turn_1 : List UInt8 := [167, 255, 236, 177]
abbrev dktX50_turn_1 : List UInt8 := dkwX50_turn_1 ++ []
def dkwX50_turn_0 : List UInt8 := [3, 60, 27, 16, 8, 162, 0, 20, 42, 27, 42, 180, 0, 51, 27, 47, 182, 0, 178, 132, 1, 1]
abbrev dktX50_turn_0 : List UInt8 := dkwX50_turn_0 ++ dktX50_turn_1
theorem dksX50_turn_0 : cX50_turn.data.toList.drop 0 = dktX50_turn_0 := by decide +kernel
theorem dksX50_turn_1 : cX50_turn.data.toList.drop 22 = dktX50_turn_1 := dk_seg dksX50_turn_0 22 rfl rfl
theorem dX50_turn_0 : decode cX50_turn 0 = .ok (.iconst 0, 1) := dk_3 (dk_at dksX50_turn_0 0 rfl rfl)
theorem dX50_turn_1 : decode cX50_turn 1 = .ok (.istore_n 1, 1) := dk_60 (dk_at dksX50_turn_0 1 rfl rfl)
theorem dX50_turn_2 : decode cX50_turn 2 = .ok (.iload_n 1, 1) := dk_27 (dk_at dksX50_turn_0 2 rfl rfl)
theorem dX50_turn_3 : decode cX50_turn 3 = .ok (.bipush 8, 2) := dk_16 8 (dk_at dksX50_turn_0 3 rfl rfl)
theorem dX50_turn_5 : decode cX50_turn 5 = .ok (.if_icmp .ge 20, 3) := dk_162 0 20 (dk_at dksX50_turn_0 5 rfl rfl)
theorem dX50_turn_8 : decode cX50_turn 8 = .ok (.aload_n 0, 1) := dk_42 (dk_at dksX50_turn_0 8 rfl rfl)
theorem dX50_turn_9 : decode cX50_turn 9 = .ok (.iload_n 1, 1) := dk_27 (dk_at dksX50_turn_0 9 rfl rfl)
theorem dX50_turn_10 : decode cX50_turn 10 = .ok (.aload_n 0, 1) := dk_42 (dk_at dksX50_turn_0 10 rfl rfl)
theorem dX50_turn_11 : decode cX50_turn 11 = .ok (.getfield 51, 3) := dk_180 0 51 (dk_at dksX50_turn_0 11 rfl rfl)
theorem dX50_turn_14 : decode cX50_turn 14 = .ok (.iload_n 1, 1) := dk_27 (dk_at dksX50_turn_0 14 rfl rfl)
theorem dX50_turn_15 : decode cX50_turn 15 = .ok (.laload, 1) := dk_47 (dk_at dksX50_turn_0 15 rfl rfl)
theorem dX50_turn_16 : decode cX50_turn 16 = .ok (.invokevirtual 178, 3) := dk_182 0 178 (dk_at dksX50_turn_0 16 rfl rfl)
theorem dX50_turn_19 : decode cX50_turn 19 = .ok (.iinc 1 1, 3) := dk_132 1 1 (dk_at dksX50_turn_0 19 rfl rfl)
theorem dX50_turn_22 : decode cX50_turn 22 = .ok (.goto (-20), 3) := dk_167 255 236 (dk_at dksX50_turn_1 0 rfl rfl)
theorem dX50_turn_25 : decode cX50_turn 25 = .ok (.return_, 1) := dk_177 (dk_at dksX50_turn_1 3 rfl rfl)
abbrev cX50_turnBy : ByteArray := prog_64_method_28_code
def yX50_turnBy : MethodName := ⟨RX50, "turnBy", "(IJ)V"⟩
def dkwX50_turnBy_12 : List UInt8 := [27, 104, 21, 6, 96, 42, 180, 0, 66, 21, 6, 47, 80, 132, 6, 1, 167, 255, 227, 177]
abbrev dktX50_turnBy_12 : List UInt8 := dkwX50_turnBy_12 ++ []
def dkwX50_turnBy_11 : List UInt8 := [27, 32, 22, 4, 101, 32, 113, 80, 3, 54, 6, 21, 6, 16, 81, 162, 0, 28, 42, 180, 0, 72, 16, 81]
abbrev dktX50_turnBy_11 : List UInt8 := dkwX50_turnBy_11 ++ dktX50_turnBy_12
def dkwX50_turnBy_10 : List UInt8 := [32, 113, 21, 6, 133, 32, 184, 0, 186, 105, 32, 113, 55, 4, 132, 6, 1, 167, 255, 111, 42, 180, 0, 75]
abbrev dktX50_turnBy_10 : List UInt8 := dkwX50_turnBy_10 ++ dktX50_turnBy_11
def dkwX50_turnBy_9 : List UInt8 := [180, 0, 69, 16, 10, 21, 9, 104, 47, 97, 55, 7, 132, 9, 1, 167, 255, 231, 32, 22, 7, 32, 113, 101]
abbrev dktX50_turnBy_9 : List UInt8 := dkwX50_turnBy_9 ++ dktX50_turnBy_10
def dkwX50_turnBy_8 : List UInt8 := [167, 255, 232, 42, 32, 182, 0, 182, 9, 55, 7, 3, 54, 9, 21, 9, 16, 9, 162, 0, 24, 22, 7, 42]
abbrev dktX50_turnBy_8 : List UInt8 := dkwX50_turnBy_8 ++ dktX50_turnBy_9
def dkwX50_turnBy_7 : List UInt8 := [16, 81, 162, 0, 23, 42, 180, 0, 66, 21, 7, 42, 180, 0, 69, 21, 7, 47, 80, 132, 7, 1]
abbrev dktX50_turnBy_7 : List UInt8 := dkwX50_turnBy_7 ++ dktX50_turnBy_8
def dkwX50_turnBy_6 : List UInt8 := [16, 10, 21, 7, 104, 47, 22, 4, 97, 32, 113, 80, 132, 7, 1, 167, 255, 221, 3, 54, 7, 21, 7]
abbrev dktX50_turnBy_6 : List UInt8 := dkwX50_turnBy_6 ++ dktX50_turnBy_7
def dkwX50_turnBy_5 : List UInt8 := [3, 54, 7, 21, 7, 16, 9, 162, 0, 34, 42, 180, 0, 69, 16, 10, 21, 7, 104, 42, 180, 0, 69]
abbrev dktX50_turnBy_5 : List UInt8 := dkwX50_turnBy_5 ++ dktX50_turnBy_6
def dkwX50_turnBy_4 : List UInt8 := [132, 4, 1, 167, 255, 161, 10, 55, 4, 4, 54, 6, 21, 6, 16, 9, 163, 0, 144, 42, 32, 182, 0, 182]
abbrev dktX50_turnBy_4 : List UInt8 := dkwX50_turnBy_4 ++ dktX50_turnBy_5
def dkwX50_turnBy_3 : List UInt8 := [97, 32, 113, 80, 42, 180, 0, 66, 16, 9, 21, 4, 104, 21, 5, 96, 9, 80, 132, 5, 1, 167, 255, 177]
abbrev dktX50_turnBy_3 : List UInt8 := dkwX50_turnBy_3 ++ dktX50_turnBy_4
def dkwX50_turnBy_2 : List UInt8 := [21, 5, 96, 47, 101, 55, 6, 42, 180, 0, 63, 16, 9, 21, 4, 104, 21, 5, 96, 22, 6, 32, 113, 32]
abbrev dktX50_turnBy_2 : List UInt8 := dkwX50_turnBy_2 ++ dktX50_turnBy_3
def dkwX50_turnBy_1 : List UInt8 := [160, 0, 13, 42, 180, 0, 54, 21, 5, 47, 167, 0, 4, 9, 42, 180, 0, 57, 16, 9, 21, 4, 104]
abbrev dktX50_turnBy_1 : List UInt8 := dkwX50_turnBy_1 ++ dktX50_turnBy_2
def dkwX50_turnBy_0 : List UInt8 := [3, 54, 4, 21, 4, 16, 9, 162, 0, 94, 3, 54, 5, 21, 5, 16, 9, 162, 0, 78, 21, 4, 21, 5]
abbrev dktX50_turnBy_0 : List UInt8 := dkwX50_turnBy_0 ++ dktX50_turnBy_1
theorem dksX50_turnBy_0 : cX50_turnBy.data.toList.drop 0 = dktX50_turnBy_0 := by decide +kernel
theorem dksX50_turnBy_1 : cX50_turnBy.data.toList.drop 24 = dktX50_turnBy_1 := dk_seg dksX50_turnBy_0 24 rfl rfl
theorem dksX50_turnBy_2 : cX50_turnBy.data.toList.drop 47 = dktX50_turnBy_2 := dk_seg dksX50_turnBy_1 23 rfl rfl
theorem dksX50_turnBy_3 : cX50_turnBy.data.toList.drop 71 = dktX50_turnBy_3 := dk_seg dksX50_turnBy_2 24 rfl rfl
theorem dksX50_turnBy_4 : cX50_turnBy.data.toList.drop 95 = dktX50_turnBy_4 := dk_seg dksX50_turnBy_3 24 rfl rfl
theorem dksX50_turnBy_5 : cX50_turnBy.data.toList.drop 119 = dktX50_turnBy_5 := dk_seg dksX50_turnBy_4 24 rfl rfl
theorem dksX50_turnBy_6 : cX50_turnBy.data.toList.drop 142 = dktX50_turnBy_6 := dk_seg dksX50_turnBy_5 23 rfl rfl
theorem dksX50_turnBy_7 : cX50_turnBy.data.toList.drop 165 = dktX50_turnBy_7 := dk_seg dksX50_turnBy_6 23 rfl rfl
theorem dksX50_turnBy_8 : cX50_turnBy.data.toList.drop 187 = dktX50_turnBy_8 := dk_seg dksX50_turnBy_7 22 rfl rfl
theorem dksX50_turnBy_9 : cX50_turnBy.data.toList.drop 211 = dktX50_turnBy_9 := dk_seg dksX50_turnBy_8 24 rfl rfl
theorem dksX50_turnBy_10 : cX50_turnBy.data.toList.drop 235 = dktX50_turnBy_10 := dk_seg dksX50_turnBy_9 24 rfl rfl
theorem dksX50_turnBy_11 : cX50_turnBy.data.toList.drop 259 = dktX50_turnBy_11 := dk_seg dksX50_turnBy_10 24 rfl rfl
theorem dksX50_turnBy_12 : cX50_turnBy.data.toList.drop 283 = dktX50_turnBy_12 := dk_seg dksX50_turnBy_11 24 rfl rfl
theorem dX50_turnBy_0 : decode cX50_turnBy 0 = .ok (.iconst 0, 1) := dk_3 (dk_at dksX50_turnBy_0 0 rfl rfl)
theorem dX50_turnBy_1 : decode cX50_turnBy 1 = .ok (.istore 4, 2) := dk_54 4 (dk_at dksX50_turnBy_0 1 rfl rfl)
theorem dX50_turnBy_3 : decode cX50_turnBy 3 = .ok (.iload 4, 2) := dk_21 4 (dk_at dksX50_turnBy_0 3 rfl rfl)
theorem dX50_turnBy_5 : decode cX50_turnBy 5 = .ok (.bipush 9, 2) := dk_16 9 (dk_at dksX50_turnBy_0 5 rfl rfl)
theorem dX50_turnBy_7 : decode cX50_turnBy 7 = .ok (.if_icmp .ge 94, 3) := dk_162 0 94 (dk_at dksX50_turnBy_0 7 rfl rfl)
theorem dX50_turnBy_10 : decode cX50_turnBy 10 = .ok (.iconst 0, 1) := dk_3 (dk_at dksX50_turnBy_0 10 rfl rfl)
theorem dX50_turnBy_11 : decode cX50_turnBy 11 = .ok (.istore 5, 2) := dk_54 5 (dk_at dksX50_turnBy_0 11 rfl rfl)
theorem dX50_turnBy_13 : decode cX50_turnBy 13 = .ok (.iload 5, 2) := dk_21 5 (dk_at dksX50_turnBy_0 13 rfl rfl)
theorem dX50_turnBy_15 : decode cX50_turnBy 15 = .ok (.bipush 9, 2) := dk_16 9 (dk_at dksX50_turnBy_0 15 rfl rfl)
theorem dX50_turnBy_17 : decode cX50_turnBy 17 = .ok (.if_icmp .ge 78, 3) := dk_162 0 78 (dk_at dksX50_turnBy_0 17 rfl rfl)
theorem dX50_turnBy_20 : decode cX50_turnBy 20 = .ok (.iload 4, 2) := dk_21 4 (dk_at dksX50_turnBy_0 20 rfl rfl)
theorem dX50_turnBy_22 : decode cX50_turnBy 22 = .ok (.iload 5, 2) := dk_21 5 (dk_at dksX50_turnBy_0 22 rfl rfl)
theorem dX50_turnBy_24 : decode cX50_turnBy 24 = .ok (.if_icmp .ne 13, 3) := dk_160 0 13 (dk_at dksX50_turnBy_1 0 rfl rfl)
theorem dX50_turnBy_27 : decode cX50_turnBy 27 = .ok (.aload_n 0, 1) := dk_42 (dk_at dksX50_turnBy_1 3 rfl rfl)
theorem dX50_turnBy_28 : decode cX50_turnBy 28 = .ok (.getfield 54, 3) := dk_180 0 54 (dk_at dksX50_turnBy_1 4 rfl rfl)
theorem dX50_turnBy_31 : decode cX50_turnBy 31 = .ok (.iload 5, 2) := dk_21 5 (dk_at dksX50_turnBy_1 7 rfl rfl)
theorem dX50_turnBy_33 : decode cX50_turnBy 33 = .ok (.laload, 1) := dk_47 (dk_at dksX50_turnBy_1 9 rfl rfl)
theorem dX50_turnBy_34 : decode cX50_turnBy 34 = .ok (.goto 4, 3) := dk_167 0 4 (dk_at dksX50_turnBy_1 10 rfl rfl)
theorem dX50_turnBy_37 : decode cX50_turnBy 37 = .ok (.lconst 0, 1) := dk_9 (dk_at dksX50_turnBy_1 13 rfl rfl)
theorem dX50_turnBy_38 : decode cX50_turnBy 38 = .ok (.aload_n 0, 1) := dk_42 (dk_at dksX50_turnBy_1 14 rfl rfl)
theorem dX50_turnBy_39 : decode cX50_turnBy 39 = .ok (.getfield 57, 3) := dk_180 0 57 (dk_at dksX50_turnBy_1 15 rfl rfl)
theorem dX50_turnBy_42 : decode cX50_turnBy 42 = .ok (.bipush 9, 2) := dk_16 9 (dk_at dksX50_turnBy_1 18 rfl rfl)
theorem dX50_turnBy_44 : decode cX50_turnBy 44 = .ok (.iload 4, 2) := dk_21 4 (dk_at dksX50_turnBy_1 20 rfl rfl)
theorem dX50_turnBy_46 : decode cX50_turnBy 46 = .ok (.imul, 1) := dk_104 (dk_at dksX50_turnBy_1 22 rfl rfl)
theorem dX50_turnBy_47 : decode cX50_turnBy 47 = .ok (.iload 5, 2) := dk_21 5 (dk_at dksX50_turnBy_2 0 rfl rfl)
theorem dX50_turnBy_49 : decode cX50_turnBy 49 = .ok (.iadd, 1) := dk_96 (dk_at dksX50_turnBy_2 2 rfl rfl)
theorem dX50_turnBy_50 : decode cX50_turnBy 50 = .ok (.laload, 1) := dk_47 (dk_at dksX50_turnBy_2 3 rfl rfl)
theorem dX50_turnBy_51 : decode cX50_turnBy 51 = .ok (.lsub, 1) := dk_101 (dk_at dksX50_turnBy_2 4 rfl rfl)
theorem dX50_turnBy_52 : decode cX50_turnBy 52 = .ok (.lstore 6, 2) := dk_55 6 (dk_at dksX50_turnBy_2 5 rfl rfl)
theorem dX50_turnBy_54 : decode cX50_turnBy 54 = .ok (.aload_n 0, 1) := dk_42 (dk_at dksX50_turnBy_2 7 rfl rfl)
theorem dX50_turnBy_55 : decode cX50_turnBy 55 = .ok (.getfield 63, 3) := dk_180 0 63 (dk_at dksX50_turnBy_2 8 rfl rfl)
theorem dX50_turnBy_58 : decode cX50_turnBy 58 = .ok (.bipush 9, 2) := dk_16 9 (dk_at dksX50_turnBy_2 11 rfl rfl)
theorem dX50_turnBy_60 : decode cX50_turnBy 60 = .ok (.iload 4, 2) := dk_21 4 (dk_at dksX50_turnBy_2 13 rfl rfl)
theorem dX50_turnBy_62 : decode cX50_turnBy 62 = .ok (.imul, 1) := dk_104 (dk_at dksX50_turnBy_2 15 rfl rfl)
theorem dX50_turnBy_63 : decode cX50_turnBy 63 = .ok (.iload 5, 2) := dk_21 5 (dk_at dksX50_turnBy_2 16 rfl rfl)
theorem dX50_turnBy_65 : decode cX50_turnBy 65 = .ok (.iadd, 1) := dk_96 (dk_at dksX50_turnBy_2 18 rfl rfl)
theorem dX50_turnBy_66 : decode cX50_turnBy 66 = .ok (.lload 6, 2) := dk_22 6 (dk_at dksX50_turnBy_2 19 rfl rfl)
theorem dX50_turnBy_68 : decode cX50_turnBy 68 = .ok (.lload_n 2, 1) := dk_32 (dk_at dksX50_turnBy_2 21 rfl rfl)
theorem dX50_turnBy_69 : decode cX50_turnBy 69 = .ok (.lrem, 1) := dk_113 (dk_at dksX50_turnBy_2 22 rfl rfl)
theorem dX50_turnBy_70 : decode cX50_turnBy 70 = .ok (.lload_n 2, 1) := dk_32 (dk_at dksX50_turnBy_2 23 rfl rfl)
theorem dX50_turnBy_71 : decode cX50_turnBy 71 = .ok (.ladd, 1) := dk_97 (dk_at dksX50_turnBy_3 0 rfl rfl)
theorem dX50_turnBy_72 : decode cX50_turnBy 72 = .ok (.lload_n 2, 1) := dk_32 (dk_at dksX50_turnBy_3 1 rfl rfl)
theorem dX50_turnBy_73 : decode cX50_turnBy 73 = .ok (.lrem, 1) := dk_113 (dk_at dksX50_turnBy_3 2 rfl rfl)
theorem dX50_turnBy_74 : decode cX50_turnBy 74 = .ok (.lastore, 1) := dk_80 (dk_at dksX50_turnBy_3 3 rfl rfl)
theorem dX50_turnBy_75 : decode cX50_turnBy 75 = .ok (.aload_n 0, 1) := dk_42 (dk_at dksX50_turnBy_3 4 rfl rfl)
theorem dX50_turnBy_76 : decode cX50_turnBy 76 = .ok (.getfield 66, 3) := dk_180 0 66 (dk_at dksX50_turnBy_3 5 rfl rfl)
theorem dX50_turnBy_79 : decode cX50_turnBy 79 = .ok (.bipush 9, 2) := dk_16 9 (dk_at dksX50_turnBy_3 8 rfl rfl)
theorem dX50_turnBy_81 : decode cX50_turnBy 81 = .ok (.iload 4, 2) := dk_21 4 (dk_at dksX50_turnBy_3 10 rfl rfl)
theorem dX50_turnBy_83 : decode cX50_turnBy 83 = .ok (.imul, 1) := dk_104 (dk_at dksX50_turnBy_3 12 rfl rfl)
theorem dX50_turnBy_84 : decode cX50_turnBy 84 = .ok (.iload 5, 2) := dk_21 5 (dk_at dksX50_turnBy_3 13 rfl rfl)
theorem dX50_turnBy_86 : decode cX50_turnBy 86 = .ok (.iadd, 1) := dk_96 (dk_at dksX50_turnBy_3 15 rfl rfl)
theorem dX50_turnBy_87 : decode cX50_turnBy 87 = .ok (.lconst 0, 1) := dk_9 (dk_at dksX50_turnBy_3 16 rfl rfl)
theorem dX50_turnBy_88 : decode cX50_turnBy 88 = .ok (.lastore, 1) := dk_80 (dk_at dksX50_turnBy_3 17 rfl rfl)
theorem dX50_turnBy_89 : decode cX50_turnBy 89 = .ok (.iinc 5 1, 3) := dk_132 5 1 (dk_at dksX50_turnBy_3 18 rfl rfl)
theorem dX50_turnBy_92 : decode cX50_turnBy 92 = .ok (.goto (-79), 3) := dk_167 255 177 (dk_at dksX50_turnBy_3 21 rfl rfl)
theorem dX50_turnBy_95 : decode cX50_turnBy 95 = .ok (.iinc 4 1, 3) := dk_132 4 1 (dk_at dksX50_turnBy_4 0 rfl rfl)
theorem dX50_turnBy_98 : decode cX50_turnBy 98 = .ok (.goto (-95), 3) := dk_167 255 161 (dk_at dksX50_turnBy_4 3 rfl rfl)
theorem dX50_turnBy_101 : decode cX50_turnBy 101 = .ok (.lconst 1, 1) := dk_10 (dk_at dksX50_turnBy_4 6 rfl rfl)
theorem dX50_turnBy_102 : decode cX50_turnBy 102 = .ok (.lstore 4, 2) := dk_55 4 (dk_at dksX50_turnBy_4 7 rfl rfl)
theorem dX50_turnBy_104 : decode cX50_turnBy 104 = .ok (.iconst 1, 1) := dk_4 (dk_at dksX50_turnBy_4 9 rfl rfl)
theorem dX50_turnBy_105 : decode cX50_turnBy 105 = .ok (.istore 6, 2) := dk_54 6 (dk_at dksX50_turnBy_4 10 rfl rfl)
theorem dX50_turnBy_107 : decode cX50_turnBy 107 = .ok (.iload 6, 2) := dk_21 6 (dk_at dksX50_turnBy_4 12 rfl rfl)
theorem dX50_turnBy_109 : decode cX50_turnBy 109 = .ok (.bipush 9, 2) := dk_16 9 (dk_at dksX50_turnBy_4 14 rfl rfl)
theorem dX50_turnBy_111 : decode cX50_turnBy 111 = .ok (.if_icmp .gt 144, 3) := dk_163 0 144 (dk_at dksX50_turnBy_4 16 rfl rfl)
theorem dX50_turnBy_114 : decode cX50_turnBy 114 = .ok (.aload_n 0, 1) := dk_42 (dk_at dksX50_turnBy_4 19 rfl rfl)
theorem dX50_turnBy_115 : decode cX50_turnBy 115 = .ok (.lload_n 2, 1) := dk_32 (dk_at dksX50_turnBy_4 20 rfl rfl)
theorem dX50_turnBy_116 : decode cX50_turnBy 116 = .ok (.invokevirtual 182, 3) := dk_182 0 182 (dk_at dksX50_turnBy_4 21 rfl rfl)
theorem dX50_turnBy_119 : decode cX50_turnBy 119 = .ok (.iconst 0, 1) := dk_3 (dk_at dksX50_turnBy_5 0 rfl rfl)
theorem dX50_turnBy_120 : decode cX50_turnBy 120 = .ok (.istore 7, 2) := dk_54 7 (dk_at dksX50_turnBy_5 1 rfl rfl)
theorem dX50_turnBy_122 : decode cX50_turnBy 122 = .ok (.iload 7, 2) := dk_21 7 (dk_at dksX50_turnBy_5 3 rfl rfl)
theorem dX50_turnBy_124 : decode cX50_turnBy 124 = .ok (.bipush 9, 2) := dk_16 9 (dk_at dksX50_turnBy_5 5 rfl rfl)
theorem dX50_turnBy_126 : decode cX50_turnBy 126 = .ok (.if_icmp .ge 34, 3) := dk_162 0 34 (dk_at dksX50_turnBy_5 7 rfl rfl)
theorem dX50_turnBy_129 : decode cX50_turnBy 129 = .ok (.aload_n 0, 1) := dk_42 (dk_at dksX50_turnBy_5 10 rfl rfl)
theorem dX50_turnBy_130 : decode cX50_turnBy 130 = .ok (.getfield 69, 3) := dk_180 0 69 (dk_at dksX50_turnBy_5 11 rfl rfl)
theorem dX50_turnBy_133 : decode cX50_turnBy 133 = .ok (.bipush 10, 2) := dk_16 10 (dk_at dksX50_turnBy_5 14 rfl rfl)
theorem dX50_turnBy_135 : decode cX50_turnBy 135 = .ok (.iload 7, 2) := dk_21 7 (dk_at dksX50_turnBy_5 16 rfl rfl)
theorem dX50_turnBy_137 : decode cX50_turnBy 137 = .ok (.imul, 1) := dk_104 (dk_at dksX50_turnBy_5 18 rfl rfl)
theorem dX50_turnBy_138 : decode cX50_turnBy 138 = .ok (.aload_n 0, 1) := dk_42 (dk_at dksX50_turnBy_5 19 rfl rfl)
theorem dX50_turnBy_139 : decode cX50_turnBy 139 = .ok (.getfield 69, 3) := dk_180 0 69 (dk_at dksX50_turnBy_5 20 rfl rfl)
theorem dX50_turnBy_142 : decode cX50_turnBy 142 = .ok (.bipush 10, 2) := dk_16 10 (dk_at dksX50_turnBy_6 0 rfl rfl)
theorem dX50_turnBy_144 : decode cX50_turnBy 144 = .ok (.iload 7, 2) := dk_21 7 (dk_at dksX50_turnBy_6 2 rfl rfl)
theorem dX50_turnBy_146 : decode cX50_turnBy 146 = .ok (.imul, 1) := dk_104 (dk_at dksX50_turnBy_6 4 rfl rfl)
theorem dX50_turnBy_147 : decode cX50_turnBy 147 = .ok (.laload, 1) := dk_47 (dk_at dksX50_turnBy_6 5 rfl rfl)
theorem dX50_turnBy_148 : decode cX50_turnBy 148 = .ok (.lload 4, 2) := dk_22 4 (dk_at dksX50_turnBy_6 6 rfl rfl)
theorem dX50_turnBy_150 : decode cX50_turnBy 150 = .ok (.ladd, 1) := dk_97 (dk_at dksX50_turnBy_6 8 rfl rfl)
theorem dX50_turnBy_151 : decode cX50_turnBy 151 = .ok (.lload_n 2, 1) := dk_32 (dk_at dksX50_turnBy_6 9 rfl rfl)
theorem dX50_turnBy_152 : decode cX50_turnBy 152 = .ok (.lrem, 1) := dk_113 (dk_at dksX50_turnBy_6 10 rfl rfl)
theorem dX50_turnBy_153 : decode cX50_turnBy 153 = .ok (.lastore, 1) := dk_80 (dk_at dksX50_turnBy_6 11 rfl rfl)
theorem dX50_turnBy_154 : decode cX50_turnBy 154 = .ok (.iinc 7 1, 3) := dk_132 7 1 (dk_at dksX50_turnBy_6 12 rfl rfl)
theorem dX50_turnBy_157 : decode cX50_turnBy 157 = .ok (.goto (-35), 3) := dk_167 255 221 (dk_at dksX50_turnBy_6 15 rfl rfl)
theorem dX50_turnBy_160 : decode cX50_turnBy 160 = .ok (.iconst 0, 1) := dk_3 (dk_at dksX50_turnBy_6 18 rfl rfl)
theorem dX50_turnBy_161 : decode cX50_turnBy 161 = .ok (.istore 7, 2) := dk_54 7 (dk_at dksX50_turnBy_6 19 rfl rfl)
theorem dX50_turnBy_163 : decode cX50_turnBy 163 = .ok (.iload 7, 2) := dk_21 7 (dk_at dksX50_turnBy_6 21 rfl rfl)
theorem dX50_turnBy_165 : decode cX50_turnBy 165 = .ok (.bipush 81, 2) := dk_16 81 (dk_at dksX50_turnBy_7 0 rfl rfl)
theorem dX50_turnBy_167 : decode cX50_turnBy 167 = .ok (.if_icmp .ge 23, 3) := dk_162 0 23 (dk_at dksX50_turnBy_7 2 rfl rfl)
theorem dX50_turnBy_170 : decode cX50_turnBy 170 = .ok (.aload_n 0, 1) := dk_42 (dk_at dksX50_turnBy_7 5 rfl rfl)
theorem dX50_turnBy_171 : decode cX50_turnBy 171 = .ok (.getfield 66, 3) := dk_180 0 66 (dk_at dksX50_turnBy_7 6 rfl rfl)
theorem dX50_turnBy_174 : decode cX50_turnBy 174 = .ok (.iload 7, 2) := dk_21 7 (dk_at dksX50_turnBy_7 9 rfl rfl)
theorem dX50_turnBy_176 : decode cX50_turnBy 176 = .ok (.aload_n 0, 1) := dk_42 (dk_at dksX50_turnBy_7 11 rfl rfl)
theorem dX50_turnBy_177 : decode cX50_turnBy 177 = .ok (.getfield 69, 3) := dk_180 0 69 (dk_at dksX50_turnBy_7 12 rfl rfl)
theorem dX50_turnBy_180 : decode cX50_turnBy 180 = .ok (.iload 7, 2) := dk_21 7 (dk_at dksX50_turnBy_7 15 rfl rfl)
theorem dX50_turnBy_182 : decode cX50_turnBy 182 = .ok (.laload, 1) := dk_47 (dk_at dksX50_turnBy_7 17 rfl rfl)
theorem dX50_turnBy_183 : decode cX50_turnBy 183 = .ok (.lastore, 1) := dk_80 (dk_at dksX50_turnBy_7 18 rfl rfl)
theorem dX50_turnBy_184 : decode cX50_turnBy 184 = .ok (.iinc 7 1, 3) := dk_132 7 1 (dk_at dksX50_turnBy_7 19 rfl rfl)
theorem dX50_turnBy_187 : decode cX50_turnBy 187 = .ok (.goto (-24), 3) := dk_167 255 232 (dk_at dksX50_turnBy_8 0 rfl rfl)
theorem dX50_turnBy_190 : decode cX50_turnBy 190 = .ok (.aload_n 0, 1) := dk_42 (dk_at dksX50_turnBy_8 3 rfl rfl)
theorem dX50_turnBy_191 : decode cX50_turnBy 191 = .ok (.lload_n 2, 1) := dk_32 (dk_at dksX50_turnBy_8 4 rfl rfl)
theorem dX50_turnBy_192 : decode cX50_turnBy 192 = .ok (.invokevirtual 182, 3) := dk_182 0 182 (dk_at dksX50_turnBy_8 5 rfl rfl)
theorem dX50_turnBy_195 : decode cX50_turnBy 195 = .ok (.lconst 0, 1) := dk_9 (dk_at dksX50_turnBy_8 8 rfl rfl)
theorem dX50_turnBy_196 : decode cX50_turnBy 196 = .ok (.lstore 7, 2) := dk_55 7 (dk_at dksX50_turnBy_8 9 rfl rfl)
theorem dX50_turnBy_198 : decode cX50_turnBy 198 = .ok (.iconst 0, 1) := dk_3 (dk_at dksX50_turnBy_8 11 rfl rfl)
theorem dX50_turnBy_199 : decode cX50_turnBy 199 = .ok (.istore 9, 2) := dk_54 9 (dk_at dksX50_turnBy_8 12 rfl rfl)
theorem dX50_turnBy_201 : decode cX50_turnBy 201 = .ok (.iload 9, 2) := dk_21 9 (dk_at dksX50_turnBy_8 14 rfl rfl)
theorem dX50_turnBy_203 : decode cX50_turnBy 203 = .ok (.bipush 9, 2) := dk_16 9 (dk_at dksX50_turnBy_8 16 rfl rfl)
theorem dX50_turnBy_205 : decode cX50_turnBy 205 = .ok (.if_icmp .ge 24, 3) := dk_162 0 24 (dk_at dksX50_turnBy_8 18 rfl rfl)
theorem dX50_turnBy_208 : decode cX50_turnBy 208 = .ok (.lload 7, 2) := dk_22 7 (dk_at dksX50_turnBy_8 21 rfl rfl)
theorem dX50_turnBy_210 : decode cX50_turnBy 210 = .ok (.aload_n 0, 1) := dk_42 (dk_at dksX50_turnBy_8 23 rfl rfl)
theorem dX50_turnBy_211 : decode cX50_turnBy 211 = .ok (.getfield 69, 3) := dk_180 0 69 (dk_at dksX50_turnBy_9 0 rfl rfl)
theorem dX50_turnBy_214 : decode cX50_turnBy 214 = .ok (.bipush 10, 2) := dk_16 10 (dk_at dksX50_turnBy_9 3 rfl rfl)
theorem dX50_turnBy_216 : decode cX50_turnBy 216 = .ok (.iload 9, 2) := dk_21 9 (dk_at dksX50_turnBy_9 5 rfl rfl)
theorem dX50_turnBy_218 : decode cX50_turnBy 218 = .ok (.imul, 1) := dk_104 (dk_at dksX50_turnBy_9 7 rfl rfl)
theorem dX50_turnBy_219 : decode cX50_turnBy 219 = .ok (.laload, 1) := dk_47 (dk_at dksX50_turnBy_9 8 rfl rfl)
theorem dX50_turnBy_220 : decode cX50_turnBy 220 = .ok (.ladd, 1) := dk_97 (dk_at dksX50_turnBy_9 9 rfl rfl)
theorem dX50_turnBy_221 : decode cX50_turnBy 221 = .ok (.lstore 7, 2) := dk_55 7 (dk_at dksX50_turnBy_9 10 rfl rfl)
theorem dX50_turnBy_223 : decode cX50_turnBy 223 = .ok (.iinc 9 1, 3) := dk_132 9 1 (dk_at dksX50_turnBy_9 12 rfl rfl)
theorem dX50_turnBy_226 : decode cX50_turnBy 226 = .ok (.goto (-25), 3) := dk_167 255 231 (dk_at dksX50_turnBy_9 15 rfl rfl)
theorem dX50_turnBy_229 : decode cX50_turnBy 229 = .ok (.lload_n 2, 1) := dk_32 (dk_at dksX50_turnBy_9 18 rfl rfl)
theorem dX50_turnBy_230 : decode cX50_turnBy 230 = .ok (.lload 7, 2) := dk_22 7 (dk_at dksX50_turnBy_9 19 rfl rfl)
theorem dX50_turnBy_232 : decode cX50_turnBy 232 = .ok (.lload_n 2, 1) := dk_32 (dk_at dksX50_turnBy_9 21 rfl rfl)
theorem dX50_turnBy_233 : decode cX50_turnBy 233 = .ok (.lrem, 1) := dk_113 (dk_at dksX50_turnBy_9 22 rfl rfl)
theorem dX50_turnBy_234 : decode cX50_turnBy 234 = .ok (.lsub, 1) := dk_101 (dk_at dksX50_turnBy_9 23 rfl rfl)
theorem dX50_turnBy_235 : decode cX50_turnBy 235 = .ok (.lload_n 2, 1) := dk_32 (dk_at dksX50_turnBy_10 0 rfl rfl)
theorem dX50_turnBy_236 : decode cX50_turnBy 236 = .ok (.lrem, 1) := dk_113 (dk_at dksX50_turnBy_10 1 rfl rfl)
theorem dX50_turnBy_237 : decode cX50_turnBy 237 = .ok (.iload 6, 2) := dk_21 6 (dk_at dksX50_turnBy_10 2 rfl rfl)
theorem dX50_turnBy_239 : decode cX50_turnBy 239 = .ok (.i2l, 1) := dk_133 (dk_at dksX50_turnBy_10 4 rfl rfl)
theorem dX50_turnBy_240 : decode cX50_turnBy 240 = .ok (.lload_n 2, 1) := dk_32 (dk_at dksX50_turnBy_10 5 rfl rfl)
theorem dX50_turnBy_241 : decode cX50_turnBy 241 = .ok (.invokestatic 186, 3) := dk_184 0 186 (dk_at dksX50_turnBy_10 6 rfl rfl)
theorem dX50_turnBy_244 : decode cX50_turnBy 244 = .ok (.lmul, 1) := dk_105 (dk_at dksX50_turnBy_10 9 rfl rfl)
theorem dX50_turnBy_245 : decode cX50_turnBy 245 = .ok (.lload_n 2, 1) := dk_32 (dk_at dksX50_turnBy_10 10 rfl rfl)
theorem dX50_turnBy_246 : decode cX50_turnBy 246 = .ok (.lrem, 1) := dk_113 (dk_at dksX50_turnBy_10 11 rfl rfl)
theorem dX50_turnBy_247 : decode cX50_turnBy 247 = .ok (.lstore 4, 2) := dk_55 4 (dk_at dksX50_turnBy_10 12 rfl rfl)
theorem dX50_turnBy_249 : decode cX50_turnBy 249 = .ok (.iinc 6 1, 3) := dk_132 6 1 (dk_at dksX50_turnBy_10 14 rfl rfl)
theorem dX50_turnBy_252 : decode cX50_turnBy 252 = .ok (.goto (-145), 3) := dk_167 255 111 (dk_at dksX50_turnBy_10 17 rfl rfl)
theorem dX50_turnBy_255 : decode cX50_turnBy 255 = .ok (.aload_n 0, 1) := dk_42 (dk_at dksX50_turnBy_10 20 rfl rfl)
theorem dX50_turnBy_256 : decode cX50_turnBy 256 = .ok (.getfield 75, 3) := dk_180 0 75 (dk_at dksX50_turnBy_10 21 rfl rfl)
theorem dX50_turnBy_259 : decode cX50_turnBy 259 = .ok (.iload_n 1, 1) := dk_27 (dk_at dksX50_turnBy_11 0 rfl rfl)
theorem dX50_turnBy_260 : decode cX50_turnBy 260 = .ok (.lload_n 2, 1) := dk_32 (dk_at dksX50_turnBy_11 1 rfl rfl)
theorem dX50_turnBy_261 : decode cX50_turnBy 261 = .ok (.lload 4, 2) := dk_22 4 (dk_at dksX50_turnBy_11 2 rfl rfl)
theorem dX50_turnBy_263 : decode cX50_turnBy 263 = .ok (.lsub, 1) := dk_101 (dk_at dksX50_turnBy_11 4 rfl rfl)
theorem dX50_turnBy_264 : decode cX50_turnBy 264 = .ok (.lload_n 2, 1) := dk_32 (dk_at dksX50_turnBy_11 5 rfl rfl)
theorem dX50_turnBy_265 : decode cX50_turnBy 265 = .ok (.lrem, 1) := dk_113 (dk_at dksX50_turnBy_11 6 rfl rfl)
theorem dX50_turnBy_266 : decode cX50_turnBy 266 = .ok (.lastore, 1) := dk_80 (dk_at dksX50_turnBy_11 7 rfl rfl)
theorem dX50_turnBy_267 : decode cX50_turnBy 267 = .ok (.iconst 0, 1) := dk_3 (dk_at dksX50_turnBy_11 8 rfl rfl)
theorem dX50_turnBy_268 : decode cX50_turnBy 268 = .ok (.istore 6, 2) := dk_54 6 (dk_at dksX50_turnBy_11 9 rfl rfl)
theorem dX50_turnBy_270 : decode cX50_turnBy 270 = .ok (.iload 6, 2) := dk_21 6 (dk_at dksX50_turnBy_11 11 rfl rfl)
theorem dX50_turnBy_272 : decode cX50_turnBy 272 = .ok (.bipush 81, 2) := dk_16 81 (dk_at dksX50_turnBy_11 13 rfl rfl)
theorem dX50_turnBy_274 : decode cX50_turnBy 274 = .ok (.if_icmp .ge 28, 3) := dk_162 0 28 (dk_at dksX50_turnBy_11 15 rfl rfl)
theorem dX50_turnBy_277 : decode cX50_turnBy 277 = .ok (.aload_n 0, 1) := dk_42 (dk_at dksX50_turnBy_11 18 rfl rfl)
theorem dX50_turnBy_278 : decode cX50_turnBy 278 = .ok (.getfield 72, 3) := dk_180 0 72 (dk_at dksX50_turnBy_11 19 rfl rfl)
theorem dX50_turnBy_281 : decode cX50_turnBy 281 = .ok (.bipush 81, 2) := dk_16 81 (dk_at dksX50_turnBy_11 22 rfl rfl)
theorem dX50_turnBy_283 : decode cX50_turnBy 283 = .ok (.iload_n 1, 1) := dk_27 (dk_at dksX50_turnBy_12 0 rfl rfl)
theorem dX50_turnBy_284 : decode cX50_turnBy 284 = .ok (.imul, 1) := dk_104 (dk_at dksX50_turnBy_12 1 rfl rfl)
theorem dX50_turnBy_285 : decode cX50_turnBy 285 = .ok (.iload 6, 2) := dk_21 6 (dk_at dksX50_turnBy_12 2 rfl rfl)
theorem dX50_turnBy_287 : decode cX50_turnBy 287 = .ok (.iadd, 1) := dk_96 (dk_at dksX50_turnBy_12 4 rfl rfl)
theorem dX50_turnBy_288 : decode cX50_turnBy 288 = .ok (.aload_n 0, 1) := dk_42 (dk_at dksX50_turnBy_12 5 rfl rfl)
theorem dX50_turnBy_289 : decode cX50_turnBy 289 = .ok (.getfield 66, 3) := dk_180 0 66 (dk_at dksX50_turnBy_12 6 rfl rfl)
theorem dX50_turnBy_292 : decode cX50_turnBy 292 = .ok (.iload 6, 2) := dk_21 6 (dk_at dksX50_turnBy_12 9 rfl rfl)
theorem dX50_turnBy_294 : decode cX50_turnBy 294 = .ok (.laload, 1) := dk_47 (dk_at dksX50_turnBy_12 11 rfl rfl)
theorem dX50_turnBy_295 : decode cX50_turnBy 295 = .ok (.lastore, 1) := dk_80 (dk_at dksX50_turnBy_12 12 rfl rfl)
theorem dX50_turnBy_296 : decode cX50_turnBy 296 = .ok (.iinc 6 1, 3) := dk_132 6 1 (dk_at dksX50_turnBy_12 13 rfl rfl)
theorem dX50_turnBy_299 : decode cX50_turnBy 299 = .ok (.goto (-29), 3) := dk_167 255 227 (dk_at dksX50_turnBy_12 16 rfl rfl)
theorem dX50_turnBy_302 : decode cX50_turnBy 302 = .ok (.return_, 1) := dk_177 (dk_at dksX50_turnBy_12 19 rfl rfl)
abbrev cX50_multiply : ByteArray := prog_64_method_29_code
def yX50_multiply : MethodName := ⟨RX50, "multiply", "(J)V"⟩
def dkwX50_multiply_4 : List UInt8 := [167, 255, 165, 177]
abbrev dktX50_multiply_4 : List UInt8 := dkwX50_multiply_4 ++ []
def dkwX50_multiply_3 : List UInt8 := [42, 180, 0, 69, 16, 9, 29, 104, 21, 4, 96, 22, 5, 80, 132, 4, 1, 167, 255, 180, 132, 3, 1]
abbrev dktX50_multiply_3 : List UInt8 := dkwX50_multiply_3 ++ dktX50_multiply_4
def dkwX50_multiply_2 : List UInt8 := [180, 0, 66, 16, 9, 21, 7, 104, 21, 4, 96, 47, 105, 97, 31, 113, 55, 5, 132, 7, 1, 167, 255, 213]
abbrev dktX50_multiply_2 : List UInt8 := dkwX50_multiply_2 ++ dktX50_multiply_3
def dkwX50_multiply_1 : List UInt8 := [21, 7, 16, 9, 162, 0, 42, 22, 5, 42, 180, 0, 63, 16, 9, 29, 104, 21, 7, 96, 47, 42]
abbrev dktX50_multiply_1 : List UInt8 := dkwX50_multiply_1 ++ dktX50_multiply_2
def dkwX50_multiply_0 : List UInt8 := [3, 62, 29, 16, 9, 162, 0, 91, 3, 54, 4, 21, 4, 16, 9, 162, 0, 75, 9, 55, 5, 3, 54, 7]
abbrev dktX50_multiply_0 : List UInt8 := dkwX50_multiply_0 ++ dktX50_multiply_1
theorem dksX50_multiply_0 : cX50_multiply.data.toList.drop 0 = dktX50_multiply_0 := by decide +kernel
theorem dksX50_multiply_1 : cX50_multiply.data.toList.drop 24 = dktX50_multiply_1 := dk_seg dksX50_multiply_0 24 rfl rfl
theorem dksX50_multiply_2 : cX50_multiply.data.toList.drop 46 = dktX50_multiply_2 := dk_seg dksX50_multiply_1 22 rfl rfl
theorem dksX50_multiply_3 : cX50_multiply.data.toList.drop 70 = dktX50_multiply_3 := dk_seg dksX50_multiply_2 24 rfl rfl
theorem dksX50_multiply_4 : cX50_multiply.data.toList.drop 93 = dktX50_multiply_4 := dk_seg dksX50_multiply_3 23 rfl rfl
theorem dX50_multiply_0 : decode cX50_multiply 0 = .ok (.iconst 0, 1) := dk_3 (dk_at dksX50_multiply_0 0 rfl rfl)
theorem dX50_multiply_1 : decode cX50_multiply 1 = .ok (.istore_n 3, 1) := dk_62 (dk_at dksX50_multiply_0 1 rfl rfl)
theorem dX50_multiply_2 : decode cX50_multiply 2 = .ok (.iload_n 3, 1) := dk_29 (dk_at dksX50_multiply_0 2 rfl rfl)
theorem dX50_multiply_3 : decode cX50_multiply 3 = .ok (.bipush 9, 2) := dk_16 9 (dk_at dksX50_multiply_0 3 rfl rfl)
theorem dX50_multiply_5 : decode cX50_multiply 5 = .ok (.if_icmp .ge 91, 3) := dk_162 0 91 (dk_at dksX50_multiply_0 5 rfl rfl)
theorem dX50_multiply_8 : decode cX50_multiply 8 = .ok (.iconst 0, 1) := dk_3 (dk_at dksX50_multiply_0 8 rfl rfl)
theorem dX50_multiply_9 : decode cX50_multiply 9 = .ok (.istore 4, 2) := dk_54 4 (dk_at dksX50_multiply_0 9 rfl rfl)
theorem dX50_multiply_11 : decode cX50_multiply 11 = .ok (.iload 4, 2) := dk_21 4 (dk_at dksX50_multiply_0 11 rfl rfl)
theorem dX50_multiply_13 : decode cX50_multiply 13 = .ok (.bipush 9, 2) := dk_16 9 (dk_at dksX50_multiply_0 13 rfl rfl)
theorem dX50_multiply_15 : decode cX50_multiply 15 = .ok (.if_icmp .ge 75, 3) := dk_162 0 75 (dk_at dksX50_multiply_0 15 rfl rfl)
theorem dX50_multiply_18 : decode cX50_multiply 18 = .ok (.lconst 0, 1) := dk_9 (dk_at dksX50_multiply_0 18 rfl rfl)
theorem dX50_multiply_19 : decode cX50_multiply 19 = .ok (.lstore 5, 2) := dk_55 5 (dk_at dksX50_multiply_0 19 rfl rfl)
theorem dX50_multiply_21 : decode cX50_multiply 21 = .ok (.iconst 0, 1) := dk_3 (dk_at dksX50_multiply_0 21 rfl rfl)
theorem dX50_multiply_22 : decode cX50_multiply 22 = .ok (.istore 7, 2) := dk_54 7 (dk_at dksX50_multiply_0 22 rfl rfl)
theorem dX50_multiply_24 : decode cX50_multiply 24 = .ok (.iload 7, 2) := dk_21 7 (dk_at dksX50_multiply_1 0 rfl rfl)
theorem dX50_multiply_26 : decode cX50_multiply 26 = .ok (.bipush 9, 2) := dk_16 9 (dk_at dksX50_multiply_1 2 rfl rfl)
theorem dX50_multiply_28 : decode cX50_multiply 28 = .ok (.if_icmp .ge 42, 3) := dk_162 0 42 (dk_at dksX50_multiply_1 4 rfl rfl)
theorem dX50_multiply_31 : decode cX50_multiply 31 = .ok (.lload 5, 2) := dk_22 5 (dk_at dksX50_multiply_1 7 rfl rfl)
theorem dX50_multiply_33 : decode cX50_multiply 33 = .ok (.aload_n 0, 1) := dk_42 (dk_at dksX50_multiply_1 9 rfl rfl)
theorem dX50_multiply_34 : decode cX50_multiply 34 = .ok (.getfield 63, 3) := dk_180 0 63 (dk_at dksX50_multiply_1 10 rfl rfl)
theorem dX50_multiply_37 : decode cX50_multiply 37 = .ok (.bipush 9, 2) := dk_16 9 (dk_at dksX50_multiply_1 13 rfl rfl)
theorem dX50_multiply_39 : decode cX50_multiply 39 = .ok (.iload_n 3, 1) := dk_29 (dk_at dksX50_multiply_1 15 rfl rfl)
theorem dX50_multiply_40 : decode cX50_multiply 40 = .ok (.imul, 1) := dk_104 (dk_at dksX50_multiply_1 16 rfl rfl)
theorem dX50_multiply_41 : decode cX50_multiply 41 = .ok (.iload 7, 2) := dk_21 7 (dk_at dksX50_multiply_1 17 rfl rfl)
theorem dX50_multiply_43 : decode cX50_multiply 43 = .ok (.iadd, 1) := dk_96 (dk_at dksX50_multiply_1 19 rfl rfl)
theorem dX50_multiply_44 : decode cX50_multiply 44 = .ok (.laload, 1) := dk_47 (dk_at dksX50_multiply_1 20 rfl rfl)
theorem dX50_multiply_45 : decode cX50_multiply 45 = .ok (.aload_n 0, 1) := dk_42 (dk_at dksX50_multiply_1 21 rfl rfl)
theorem dX50_multiply_46 : decode cX50_multiply 46 = .ok (.getfield 66, 3) := dk_180 0 66 (dk_at dksX50_multiply_2 0 rfl rfl)
theorem dX50_multiply_49 : decode cX50_multiply 49 = .ok (.bipush 9, 2) := dk_16 9 (dk_at dksX50_multiply_2 3 rfl rfl)
theorem dX50_multiply_51 : decode cX50_multiply 51 = .ok (.iload 7, 2) := dk_21 7 (dk_at dksX50_multiply_2 5 rfl rfl)
theorem dX50_multiply_53 : decode cX50_multiply 53 = .ok (.imul, 1) := dk_104 (dk_at dksX50_multiply_2 7 rfl rfl)
theorem dX50_multiply_54 : decode cX50_multiply 54 = .ok (.iload 4, 2) := dk_21 4 (dk_at dksX50_multiply_2 8 rfl rfl)
theorem dX50_multiply_56 : decode cX50_multiply 56 = .ok (.iadd, 1) := dk_96 (dk_at dksX50_multiply_2 10 rfl rfl)
theorem dX50_multiply_57 : decode cX50_multiply 57 = .ok (.laload, 1) := dk_47 (dk_at dksX50_multiply_2 11 rfl rfl)
theorem dX50_multiply_58 : decode cX50_multiply 58 = .ok (.lmul, 1) := dk_105 (dk_at dksX50_multiply_2 12 rfl rfl)
theorem dX50_multiply_59 : decode cX50_multiply 59 = .ok (.ladd, 1) := dk_97 (dk_at dksX50_multiply_2 13 rfl rfl)
theorem dX50_multiply_60 : decode cX50_multiply 60 = .ok (.lload_n 1, 1) := dk_31 (dk_at dksX50_multiply_2 14 rfl rfl)
theorem dX50_multiply_61 : decode cX50_multiply 61 = .ok (.lrem, 1) := dk_113 (dk_at dksX50_multiply_2 15 rfl rfl)
theorem dX50_multiply_62 : decode cX50_multiply 62 = .ok (.lstore 5, 2) := dk_55 5 (dk_at dksX50_multiply_2 16 rfl rfl)
theorem dX50_multiply_64 : decode cX50_multiply 64 = .ok (.iinc 7 1, 3) := dk_132 7 1 (dk_at dksX50_multiply_2 18 rfl rfl)
theorem dX50_multiply_67 : decode cX50_multiply 67 = .ok (.goto (-43), 3) := dk_167 255 213 (dk_at dksX50_multiply_2 21 rfl rfl)
theorem dX50_multiply_70 : decode cX50_multiply 70 = .ok (.aload_n 0, 1) := dk_42 (dk_at dksX50_multiply_3 0 rfl rfl)
theorem dX50_multiply_71 : decode cX50_multiply 71 = .ok (.getfield 69, 3) := dk_180 0 69 (dk_at dksX50_multiply_3 1 rfl rfl)
theorem dX50_multiply_74 : decode cX50_multiply 74 = .ok (.bipush 9, 2) := dk_16 9 (dk_at dksX50_multiply_3 4 rfl rfl)
theorem dX50_multiply_76 : decode cX50_multiply 76 = .ok (.iload_n 3, 1) := dk_29 (dk_at dksX50_multiply_3 6 rfl rfl)
theorem dX50_multiply_77 : decode cX50_multiply 77 = .ok (.imul, 1) := dk_104 (dk_at dksX50_multiply_3 7 rfl rfl)
theorem dX50_multiply_78 : decode cX50_multiply 78 = .ok (.iload 4, 2) := dk_21 4 (dk_at dksX50_multiply_3 8 rfl rfl)
theorem dX50_multiply_80 : decode cX50_multiply 80 = .ok (.iadd, 1) := dk_96 (dk_at dksX50_multiply_3 10 rfl rfl)
theorem dX50_multiply_81 : decode cX50_multiply 81 = .ok (.lload 5, 2) := dk_22 5 (dk_at dksX50_multiply_3 11 rfl rfl)
theorem dX50_multiply_83 : decode cX50_multiply 83 = .ok (.lastore, 1) := dk_80 (dk_at dksX50_multiply_3 13 rfl rfl)
theorem dX50_multiply_84 : decode cX50_multiply 84 = .ok (.iinc 4 1, 3) := dk_132 4 1 (dk_at dksX50_multiply_3 14 rfl rfl)
theorem dX50_multiply_87 : decode cX50_multiply 87 = .ok (.goto (-76), 3) := dk_167 255 180 (dk_at dksX50_multiply_3 17 rfl rfl)
theorem dX50_multiply_90 : decode cX50_multiply 90 = .ok (.iinc 3 1, 3) := dk_132 3 1 (dk_at dksX50_multiply_3 20 rfl rfl)
theorem dX50_multiply_93 : decode cX50_multiply 93 = .ok (.goto (-91), 3) := dk_167 255 165 (dk_at dksX50_multiply_4 0 rfl rfl)
theorem dX50_multiply_96 : decode cX50_multiply 96 = .ok (.return_, 1) := dk_177 (dk_at dksX50_multiply_4 3 rfl rfl)
abbrev cX50_inverse : ByteArray := prog_64_method_26_code
def yX50_inverse : MethodName := ⟨RX50, "inverse", "(JJ)J"⟩
def dkwX50_inverse_0 : List UInt8 := [30, 32, 20, 0, 172, 101, 32, 184, 0, 174, 173]
abbrev dktX50_inverse_0 : List UInt8 := dkwX50_inverse_0 ++ []
theorem dksX50_inverse_0 : cX50_inverse.data.toList.drop 0 = dktX50_inverse_0 := by decide +kernel
theorem dX50_inverse_0 : decode cX50_inverse 0 = .ok (.lload_n 0, 1) := dk_30 (dk_at dksX50_inverse_0 0 rfl rfl)
theorem dX50_inverse_1 : decode cX50_inverse 1 = .ok (.lload_n 2, 1) := dk_32 (dk_at dksX50_inverse_0 1 rfl rfl)
theorem dX50_inverse_2 : decode cX50_inverse 2 = .ok (.ldc2_w 172, 3) := dk_20 0 172 (dk_at dksX50_inverse_0 2 rfl rfl)
theorem dX50_inverse_5 : decode cX50_inverse 5 = .ok (.lsub, 1) := dk_101 (dk_at dksX50_inverse_0 5 rfl rfl)
theorem dX50_inverse_6 : decode cX50_inverse 6 = .ok (.lload_n 2, 1) := dk_32 (dk_at dksX50_inverse_0 6 rfl rfl)
theorem dX50_inverse_7 : decode cX50_inverse 7 = .ok (.invokestatic 174, 3) := dk_184 0 174 (dk_at dksX50_inverse_0 7 rfl rfl)
theorem dX50_inverse_10 : decode cX50_inverse 10 = .ok (.lreturn, 1) := dk_173 (dk_at dksX50_inverse_0 10 rfl rfl)
abbrev cX50_raise : ByteArray := prog_64_method_25_code
def yX50_raise : MethodName := ⟨RX50, "raise", "(JJJ)J"⟩
def dkwX50_raise_2 : List UInt8 := [22, 4, 113, 55, 8, 22, 10, 20, 0, 172, 109, 55, 10, 167, 255, 205, 22, 6, 173]
abbrev dktX50_raise_2 : List UInt8 := dkwX50_raise_2 ++ []
def dkwX50_raise_1 : List UInt8 := [154, 0, 14, 22, 6, 22, 8, 105, 22, 4, 113, 167, 0, 5, 22, 6, 55, 6, 22, 8, 22, 8, 105]
abbrev dktX50_raise_1 : List UInt8 := dkwX50_raise_1 ++ dktX50_raise_2
def dkwX50_raise_0 : List UInt8 := [10, 55, 6, 30, 55, 8, 32, 55, 10, 22, 10, 9, 148, 158, 0, 50, 22, 10, 20, 0, 172, 113, 10, 148]
abbrev dktX50_raise_0 : List UInt8 := dkwX50_raise_0 ++ dktX50_raise_1
theorem dksX50_raise_0 : cX50_raise.data.toList.drop 0 = dktX50_raise_0 := by decide +kernel
theorem dksX50_raise_1 : cX50_raise.data.toList.drop 24 = dktX50_raise_1 := dk_seg dksX50_raise_0 24 rfl rfl
theorem dksX50_raise_2 : cX50_raise.data.toList.drop 47 = dktX50_raise_2 := dk_seg dksX50_raise_1 23 rfl rfl
theorem dX50_raise_0 : decode cX50_raise 0 = .ok (.lconst 1, 1) := dk_10 (dk_at dksX50_raise_0 0 rfl rfl)
theorem dX50_raise_1 : decode cX50_raise 1 = .ok (.lstore 6, 2) := dk_55 6 (dk_at dksX50_raise_0 1 rfl rfl)
theorem dX50_raise_3 : decode cX50_raise 3 = .ok (.lload_n 0, 1) := dk_30 (dk_at dksX50_raise_0 3 rfl rfl)
theorem dX50_raise_4 : decode cX50_raise 4 = .ok (.lstore 8, 2) := dk_55 8 (dk_at dksX50_raise_0 4 rfl rfl)
theorem dX50_raise_6 : decode cX50_raise 6 = .ok (.lload_n 2, 1) := dk_32 (dk_at dksX50_raise_0 6 rfl rfl)
theorem dX50_raise_7 : decode cX50_raise 7 = .ok (.lstore 10, 2) := dk_55 10 (dk_at dksX50_raise_0 7 rfl rfl)
theorem dX50_raise_9 : decode cX50_raise 9 = .ok (.lload 10, 2) := dk_22 10 (dk_at dksX50_raise_0 9 rfl rfl)
theorem dX50_raise_11 : decode cX50_raise 11 = .ok (.lconst 0, 1) := dk_9 (dk_at dksX50_raise_0 11 rfl rfl)
theorem dX50_raise_12 : decode cX50_raise 12 = .ok (.lcmp, 1) := dk_148 (dk_at dksX50_raise_0 12 rfl rfl)
theorem dX50_raise_13 : decode cX50_raise 13 = .ok (.ifCond .le 50, 3) := dk_158 0 50 (dk_at dksX50_raise_0 13 rfl rfl)
theorem dX50_raise_16 : decode cX50_raise 16 = .ok (.lload 10, 2) := dk_22 10 (dk_at dksX50_raise_0 16 rfl rfl)
theorem dX50_raise_18 : decode cX50_raise 18 = .ok (.ldc2_w 172, 3) := dk_20 0 172 (dk_at dksX50_raise_0 18 rfl rfl)
theorem dX50_raise_21 : decode cX50_raise 21 = .ok (.lrem, 1) := dk_113 (dk_at dksX50_raise_0 21 rfl rfl)
theorem dX50_raise_22 : decode cX50_raise 22 = .ok (.lconst 1, 1) := dk_10 (dk_at dksX50_raise_0 22 rfl rfl)
theorem dX50_raise_23 : decode cX50_raise 23 = .ok (.lcmp, 1) := dk_148 (dk_at dksX50_raise_0 23 rfl rfl)
theorem dX50_raise_24 : decode cX50_raise 24 = .ok (.ifCond .ne 14, 3) := dk_154 0 14 (dk_at dksX50_raise_1 0 rfl rfl)
theorem dX50_raise_27 : decode cX50_raise 27 = .ok (.lload 6, 2) := dk_22 6 (dk_at dksX50_raise_1 3 rfl rfl)
theorem dX50_raise_29 : decode cX50_raise 29 = .ok (.lload 8, 2) := dk_22 8 (dk_at dksX50_raise_1 5 rfl rfl)
theorem dX50_raise_31 : decode cX50_raise 31 = .ok (.lmul, 1) := dk_105 (dk_at dksX50_raise_1 7 rfl rfl)
theorem dX50_raise_32 : decode cX50_raise 32 = .ok (.lload 4, 2) := dk_22 4 (dk_at dksX50_raise_1 8 rfl rfl)
theorem dX50_raise_34 : decode cX50_raise 34 = .ok (.lrem, 1) := dk_113 (dk_at dksX50_raise_1 10 rfl rfl)
theorem dX50_raise_35 : decode cX50_raise 35 = .ok (.goto 5, 3) := dk_167 0 5 (dk_at dksX50_raise_1 11 rfl rfl)
theorem dX50_raise_38 : decode cX50_raise 38 = .ok (.lload 6, 2) := dk_22 6 (dk_at dksX50_raise_1 14 rfl rfl)
theorem dX50_raise_40 : decode cX50_raise 40 = .ok (.lstore 6, 2) := dk_55 6 (dk_at dksX50_raise_1 16 rfl rfl)
theorem dX50_raise_42 : decode cX50_raise 42 = .ok (.lload 8, 2) := dk_22 8 (dk_at dksX50_raise_1 18 rfl rfl)
theorem dX50_raise_44 : decode cX50_raise 44 = .ok (.lload 8, 2) := dk_22 8 (dk_at dksX50_raise_1 20 rfl rfl)
theorem dX50_raise_46 : decode cX50_raise 46 = .ok (.lmul, 1) := dk_105 (dk_at dksX50_raise_1 22 rfl rfl)
theorem dX50_raise_47 : decode cX50_raise 47 = .ok (.lload 4, 2) := dk_22 4 (dk_at dksX50_raise_2 0 rfl rfl)
theorem dX50_raise_49 : decode cX50_raise 49 = .ok (.lrem, 1) := dk_113 (dk_at dksX50_raise_2 2 rfl rfl)
theorem dX50_raise_50 : decode cX50_raise 50 = .ok (.lstore 8, 2) := dk_55 8 (dk_at dksX50_raise_2 3 rfl rfl)
theorem dX50_raise_52 : decode cX50_raise 52 = .ok (.lload 10, 2) := dk_22 10 (dk_at dksX50_raise_2 5 rfl rfl)
theorem dX50_raise_54 : decode cX50_raise 54 = .ok (.ldc2_w 172, 3) := dk_20 0 172 (dk_at dksX50_raise_2 7 rfl rfl)
theorem dX50_raise_57 : decode cX50_raise 57 = .ok (.ldiv, 1) := dk_109 (dk_at dksX50_raise_2 10 rfl rfl)
theorem dX50_raise_58 : decode cX50_raise 58 = .ok (.lstore 10, 2) := dk_55 10 (dk_at dksX50_raise_2 11 rfl rfl)
theorem dX50_raise_60 : decode cX50_raise 60 = .ok (.goto (-51), 3) := dk_167 255 205 (dk_at dksX50_raise_2 13 rfl rfl)
theorem dX50_raise_63 : decode cX50_raise 63 = .ok (.lload 6, 2) := dk_22 6 (dk_at dksX50_raise_2 16 rfl rfl)
theorem dX50_raise_65 : decode cX50_raise 65 = .ok (.lreturn, 1) := dk_173 (dk_at dksX50_raise_2 18 rfl rfl)
abbrev cX50_gatherOver : ByteArray := prog_64_method_46_code
def yX50_gatherOver : MethodName := ⟨RX50, "gatherOver", "(I)V"⟩
def dkwX50_gatherOver_1 : List UInt8 := [167, 255, 235, 42, 27, 182, 0, 239, 177]
abbrev dktX50_gatherOver_1 : List UInt8 := dkwX50_gatherOver_1 ++ []
def dkwX50_gatherOver_0 : List UInt8 := [3, 61, 28, 16, 8, 162, 0, 21, 42, 180, 0, 81, 28, 42, 180, 0, 75, 28, 47, 80, 132, 2, 1]
abbrev dktX50_gatherOver_0 : List UInt8 := dkwX50_gatherOver_0 ++ dktX50_gatherOver_1
theorem dksX50_gatherOver_0 : cX50_gatherOver.data.toList.drop 0 = dktX50_gatherOver_0 := by decide +kernel
theorem dksX50_gatherOver_1 : cX50_gatherOver.data.toList.drop 23 = dktX50_gatherOver_1 := dk_seg dksX50_gatherOver_0 23 rfl rfl
theorem dX50_gatherOver_0 : decode cX50_gatherOver 0 = .ok (.iconst 0, 1) := dk_3 (dk_at dksX50_gatherOver_0 0 rfl rfl)
theorem dX50_gatherOver_1 : decode cX50_gatherOver 1 = .ok (.istore_n 2, 1) := dk_61 (dk_at dksX50_gatherOver_0 1 rfl rfl)
theorem dX50_gatherOver_2 : decode cX50_gatherOver 2 = .ok (.iload_n 2, 1) := dk_28 (dk_at dksX50_gatherOver_0 2 rfl rfl)
theorem dX50_gatherOver_3 : decode cX50_gatherOver 3 = .ok (.bipush 8, 2) := dk_16 8 (dk_at dksX50_gatherOver_0 3 rfl rfl)
theorem dX50_gatherOver_5 : decode cX50_gatherOver 5 = .ok (.if_icmp .ge 21, 3) := dk_162 0 21 (dk_at dksX50_gatherOver_0 5 rfl rfl)
theorem dX50_gatherOver_8 : decode cX50_gatherOver 8 = .ok (.aload_n 0, 1) := dk_42 (dk_at dksX50_gatherOver_0 8 rfl rfl)
theorem dX50_gatherOver_9 : decode cX50_gatherOver 9 = .ok (.getfield 81, 3) := dk_180 0 81 (dk_at dksX50_gatherOver_0 9 rfl rfl)
theorem dX50_gatherOver_12 : decode cX50_gatherOver 12 = .ok (.iload_n 2, 1) := dk_28 (dk_at dksX50_gatherOver_0 12 rfl rfl)
theorem dX50_gatherOver_13 : decode cX50_gatherOver 13 = .ok (.aload_n 0, 1) := dk_42 (dk_at dksX50_gatherOver_0 13 rfl rfl)
theorem dX50_gatherOver_14 : decode cX50_gatherOver 14 = .ok (.getfield 75, 3) := dk_180 0 75 (dk_at dksX50_gatherOver_0 14 rfl rfl)
theorem dX50_gatherOver_17 : decode cX50_gatherOver 17 = .ok (.iload_n 2, 1) := dk_28 (dk_at dksX50_gatherOver_0 17 rfl rfl)
theorem dX50_gatherOver_18 : decode cX50_gatherOver 18 = .ok (.laload, 1) := dk_47 (dk_at dksX50_gatherOver_0 18 rfl rfl)
theorem dX50_gatherOver_19 : decode cX50_gatherOver 19 = .ok (.lastore, 1) := dk_80 (dk_at dksX50_gatherOver_0 19 rfl rfl)
theorem dX50_gatherOver_20 : decode cX50_gatherOver 20 = .ok (.iinc 2 1, 3) := dk_132 2 1 (dk_at dksX50_gatherOver_0 20 rfl rfl)
theorem dX50_gatherOver_23 : decode cX50_gatherOver 23 = .ok (.goto (-21), 3) := dk_167 255 235 (dk_at dksX50_gatherOver_1 0 rfl rfl)
theorem dX50_gatherOver_26 : decode cX50_gatherOver 26 = .ok (.aload_n 0, 1) := dk_42 (dk_at dksX50_gatherOver_1 3 rfl rfl)
theorem dX50_gatherOver_27 : decode cX50_gatherOver 27 = .ok (.iload_n 1, 1) := dk_27 (dk_at dksX50_gatherOver_1 4 rfl rfl)
theorem dX50_gatherOver_28 : decode cX50_gatherOver 28 = .ok (.invokevirtual 239, 3) := dk_182 0 239 (dk_at dksX50_gatherOver_1 5 rfl rfl)
theorem dX50_gatherOver_31 : decode cX50_gatherOver 31 = .ok (.return_, 1) := dk_177 (dk_at dksX50_gatherOver_1 8 rfl rfl)
abbrev cX50_gather : ByteArray := prog_64_method_37_code
def yX50_gather : MethodName := ⟨RX50, "gather", "(I)V"⟩
def dkwX50_gather_5 : List UInt8 := [47, 9, 182, 0, 196, 42, 27, 42, 180, 0, 84, 28, 47, 182, 0, 200, 132, 2, 255, 167, 255, 216, 177]
abbrev dktX50_gather_5 : List UInt8 := dkwX50_gather_5 ++ []
def dkwX50_gather_4 : List UInt8 := [16, 7, 61, 28, 155, 0, 42, 42, 27, 28, 16, 7, 160, 0, 7, 10, 167, 0, 9, 42, 180, 0, 51, 28]
abbrev dktX50_gather_4 : List UInt8 := dkwX50_gather_4 ++ dktX50_gather_5
def dkwX50_gather_3 : List UInt8 := [132, 5, 1, 167, 255, 201, 42, 180, 0, 84, 28, 33, 80, 132, 2, 1, 167, 255, 172, 42, 27, 182, 0, 192]
abbrev dktX50_gather_3 : List UInt8 := dkwX50_gather_3 ++ dktX50_gather_4
def dkwX50_gather_2 : List UInt8 := [22, 6, 113, 42, 180, 0, 51, 21, 5, 47, 22, 6, 113, 22, 6, 184, 0, 186, 105, 22, 6, 113, 66]
abbrev dktX50_gather_2 : List UInt8 := dkwX50_gather_2 ++ dktX50_gather_3
def dkwX50_gather_1 : List UInt8 := [42, 180, 0, 51, 28, 47, 55, 6, 33, 42, 180, 0, 84, 21, 5, 47, 101, 22, 6, 113, 22, 6, 97]
abbrev dktX50_gather_1 : List UInt8 := dkwX50_gather_1 ++ dktX50_gather_2
def dkwX50_gather_0 : List UInt8 := [3, 61, 28, 16, 8, 162, 0, 84, 42, 180, 0, 81, 28, 47, 66, 3, 54, 5, 21, 5, 28, 162, 0, 55]
abbrev dktX50_gather_0 : List UInt8 := dkwX50_gather_0 ++ dktX50_gather_1
theorem dksX50_gather_0 : cX50_gather.data.toList.drop 0 = dktX50_gather_0 := by decide +kernel
theorem dksX50_gather_1 : cX50_gather.data.toList.drop 24 = dktX50_gather_1 := dk_seg dksX50_gather_0 24 rfl rfl
theorem dksX50_gather_2 : cX50_gather.data.toList.drop 47 = dktX50_gather_2 := dk_seg dksX50_gather_1 23 rfl rfl
theorem dksX50_gather_3 : cX50_gather.data.toList.drop 70 = dktX50_gather_3 := dk_seg dksX50_gather_2 23 rfl rfl
theorem dksX50_gather_4 : cX50_gather.data.toList.drop 94 = dktX50_gather_4 := dk_seg dksX50_gather_3 24 rfl rfl
theorem dksX50_gather_5 : cX50_gather.data.toList.drop 118 = dktX50_gather_5 := dk_seg dksX50_gather_4 24 rfl rfl
theorem dX50_gather_0 : decode cX50_gather 0 = .ok (.iconst 0, 1) := dk_3 (dk_at dksX50_gather_0 0 rfl rfl)
theorem dX50_gather_1 : decode cX50_gather 1 = .ok (.istore_n 2, 1) := dk_61 (dk_at dksX50_gather_0 1 rfl rfl)
theorem dX50_gather_2 : decode cX50_gather 2 = .ok (.iload_n 2, 1) := dk_28 (dk_at dksX50_gather_0 2 rfl rfl)
theorem dX50_gather_3 : decode cX50_gather 3 = .ok (.bipush 8, 2) := dk_16 8 (dk_at dksX50_gather_0 3 rfl rfl)
theorem dX50_gather_5 : decode cX50_gather 5 = .ok (.if_icmp .ge 84, 3) := dk_162 0 84 (dk_at dksX50_gather_0 5 rfl rfl)
theorem dX50_gather_8 : decode cX50_gather 8 = .ok (.aload_n 0, 1) := dk_42 (dk_at dksX50_gather_0 8 rfl rfl)
theorem dX50_gather_9 : decode cX50_gather 9 = .ok (.getfield 81, 3) := dk_180 0 81 (dk_at dksX50_gather_0 9 rfl rfl)
theorem dX50_gather_12 : decode cX50_gather 12 = .ok (.iload_n 2, 1) := dk_28 (dk_at dksX50_gather_0 12 rfl rfl)
theorem dX50_gather_13 : decode cX50_gather 13 = .ok (.laload, 1) := dk_47 (dk_at dksX50_gather_0 13 rfl rfl)
theorem dX50_gather_14 : decode cX50_gather 14 = .ok (.lstore_n 3, 1) := dk_66 (dk_at dksX50_gather_0 14 rfl rfl)
theorem dX50_gather_15 : decode cX50_gather 15 = .ok (.iconst 0, 1) := dk_3 (dk_at dksX50_gather_0 15 rfl rfl)
theorem dX50_gather_16 : decode cX50_gather 16 = .ok (.istore 5, 2) := dk_54 5 (dk_at dksX50_gather_0 16 rfl rfl)
theorem dX50_gather_18 : decode cX50_gather 18 = .ok (.iload 5, 2) := dk_21 5 (dk_at dksX50_gather_0 18 rfl rfl)
theorem dX50_gather_20 : decode cX50_gather 20 = .ok (.iload_n 2, 1) := dk_28 (dk_at dksX50_gather_0 20 rfl rfl)
theorem dX50_gather_21 : decode cX50_gather 21 = .ok (.if_icmp .ge 55, 3) := dk_162 0 55 (dk_at dksX50_gather_0 21 rfl rfl)
theorem dX50_gather_24 : decode cX50_gather 24 = .ok (.aload_n 0, 1) := dk_42 (dk_at dksX50_gather_1 0 rfl rfl)
theorem dX50_gather_25 : decode cX50_gather 25 = .ok (.getfield 51, 3) := dk_180 0 51 (dk_at dksX50_gather_1 1 rfl rfl)
theorem dX50_gather_28 : decode cX50_gather 28 = .ok (.iload_n 2, 1) := dk_28 (dk_at dksX50_gather_1 4 rfl rfl)
theorem dX50_gather_29 : decode cX50_gather 29 = .ok (.laload, 1) := dk_47 (dk_at dksX50_gather_1 5 rfl rfl)
theorem dX50_gather_30 : decode cX50_gather 30 = .ok (.lstore 6, 2) := dk_55 6 (dk_at dksX50_gather_1 6 rfl rfl)
theorem dX50_gather_32 : decode cX50_gather 32 = .ok (.lload_n 3, 1) := dk_33 (dk_at dksX50_gather_1 8 rfl rfl)
theorem dX50_gather_33 : decode cX50_gather 33 = .ok (.aload_n 0, 1) := dk_42 (dk_at dksX50_gather_1 9 rfl rfl)
theorem dX50_gather_34 : decode cX50_gather 34 = .ok (.getfield 84, 3) := dk_180 0 84 (dk_at dksX50_gather_1 10 rfl rfl)
theorem dX50_gather_37 : decode cX50_gather 37 = .ok (.iload 5, 2) := dk_21 5 (dk_at dksX50_gather_1 13 rfl rfl)
theorem dX50_gather_39 : decode cX50_gather 39 = .ok (.laload, 1) := dk_47 (dk_at dksX50_gather_1 15 rfl rfl)
theorem dX50_gather_40 : decode cX50_gather 40 = .ok (.lsub, 1) := dk_101 (dk_at dksX50_gather_1 16 rfl rfl)
theorem dX50_gather_41 : decode cX50_gather 41 = .ok (.lload 6, 2) := dk_22 6 (dk_at dksX50_gather_1 17 rfl rfl)
theorem dX50_gather_43 : decode cX50_gather 43 = .ok (.lrem, 1) := dk_113 (dk_at dksX50_gather_1 19 rfl rfl)
theorem dX50_gather_44 : decode cX50_gather 44 = .ok (.lload 6, 2) := dk_22 6 (dk_at dksX50_gather_1 20 rfl rfl)
theorem dX50_gather_46 : decode cX50_gather 46 = .ok (.ladd, 1) := dk_97 (dk_at dksX50_gather_1 22 rfl rfl)
theorem dX50_gather_47 : decode cX50_gather 47 = .ok (.lload 6, 2) := dk_22 6 (dk_at dksX50_gather_2 0 rfl rfl)
theorem dX50_gather_49 : decode cX50_gather 49 = .ok (.lrem, 1) := dk_113 (dk_at dksX50_gather_2 2 rfl rfl)
theorem dX50_gather_50 : decode cX50_gather 50 = .ok (.aload_n 0, 1) := dk_42 (dk_at dksX50_gather_2 3 rfl rfl)
theorem dX50_gather_51 : decode cX50_gather 51 = .ok (.getfield 51, 3) := dk_180 0 51 (dk_at dksX50_gather_2 4 rfl rfl)
theorem dX50_gather_54 : decode cX50_gather 54 = .ok (.iload 5, 2) := dk_21 5 (dk_at dksX50_gather_2 7 rfl rfl)
theorem dX50_gather_56 : decode cX50_gather 56 = .ok (.laload, 1) := dk_47 (dk_at dksX50_gather_2 9 rfl rfl)
theorem dX50_gather_57 : decode cX50_gather 57 = .ok (.lload 6, 2) := dk_22 6 (dk_at dksX50_gather_2 10 rfl rfl)
theorem dX50_gather_59 : decode cX50_gather 59 = .ok (.lrem, 1) := dk_113 (dk_at dksX50_gather_2 12 rfl rfl)
theorem dX50_gather_60 : decode cX50_gather 60 = .ok (.lload 6, 2) := dk_22 6 (dk_at dksX50_gather_2 13 rfl rfl)
theorem dX50_gather_62 : decode cX50_gather 62 = .ok (.invokestatic 186, 3) := dk_184 0 186 (dk_at dksX50_gather_2 15 rfl rfl)
theorem dX50_gather_65 : decode cX50_gather 65 = .ok (.lmul, 1) := dk_105 (dk_at dksX50_gather_2 18 rfl rfl)
theorem dX50_gather_66 : decode cX50_gather 66 = .ok (.lload 6, 2) := dk_22 6 (dk_at dksX50_gather_2 19 rfl rfl)
theorem dX50_gather_68 : decode cX50_gather 68 = .ok (.lrem, 1) := dk_113 (dk_at dksX50_gather_2 21 rfl rfl)
theorem dX50_gather_69 : decode cX50_gather 69 = .ok (.lstore_n 3, 1) := dk_66 (dk_at dksX50_gather_2 22 rfl rfl)
theorem dX50_gather_70 : decode cX50_gather 70 = .ok (.iinc 5 1, 3) := dk_132 5 1 (dk_at dksX50_gather_3 0 rfl rfl)
theorem dX50_gather_73 : decode cX50_gather 73 = .ok (.goto (-55), 3) := dk_167 255 201 (dk_at dksX50_gather_3 3 rfl rfl)
theorem dX50_gather_76 : decode cX50_gather 76 = .ok (.aload_n 0, 1) := dk_42 (dk_at dksX50_gather_3 6 rfl rfl)
theorem dX50_gather_77 : decode cX50_gather 77 = .ok (.getfield 84, 3) := dk_180 0 84 (dk_at dksX50_gather_3 7 rfl rfl)
theorem dX50_gather_80 : decode cX50_gather 80 = .ok (.iload_n 2, 1) := dk_28 (dk_at dksX50_gather_3 10 rfl rfl)
theorem dX50_gather_81 : decode cX50_gather 81 = .ok (.lload_n 3, 1) := dk_33 (dk_at dksX50_gather_3 11 rfl rfl)
theorem dX50_gather_82 : decode cX50_gather 82 = .ok (.lastore, 1) := dk_80 (dk_at dksX50_gather_3 12 rfl rfl)
theorem dX50_gather_83 : decode cX50_gather 83 = .ok (.iinc 2 1, 3) := dk_132 2 1 (dk_at dksX50_gather_3 13 rfl rfl)
theorem dX50_gather_86 : decode cX50_gather 86 = .ok (.goto (-84), 3) := dk_167 255 172 (dk_at dksX50_gather_3 16 rfl rfl)
theorem dX50_gather_89 : decode cX50_gather 89 = .ok (.aload_n 0, 1) := dk_42 (dk_at dksX50_gather_3 19 rfl rfl)
theorem dX50_gather_90 : decode cX50_gather 90 = .ok (.iload_n 1, 1) := dk_27 (dk_at dksX50_gather_3 20 rfl rfl)
theorem dX50_gather_91 : decode cX50_gather 91 = .ok (.invokevirtual 192, 3) := dk_182 0 192 (dk_at dksX50_gather_3 21 rfl rfl)
theorem dX50_gather_94 : decode cX50_gather 94 = .ok (.bipush 7, 2) := dk_16 7 (dk_at dksX50_gather_4 0 rfl rfl)
theorem dX50_gather_96 : decode cX50_gather 96 = .ok (.istore_n 2, 1) := dk_61 (dk_at dksX50_gather_4 2 rfl rfl)
theorem dX50_gather_97 : decode cX50_gather 97 = .ok (.iload_n 2, 1) := dk_28 (dk_at dksX50_gather_4 3 rfl rfl)
theorem dX50_gather_98 : decode cX50_gather 98 = .ok (.ifCond .lt 42, 3) := dk_155 0 42 (dk_at dksX50_gather_4 4 rfl rfl)
theorem dX50_gather_101 : decode cX50_gather 101 = .ok (.aload_n 0, 1) := dk_42 (dk_at dksX50_gather_4 7 rfl rfl)
theorem dX50_gather_102 : decode cX50_gather 102 = .ok (.iload_n 1, 1) := dk_27 (dk_at dksX50_gather_4 8 rfl rfl)
theorem dX50_gather_103 : decode cX50_gather 103 = .ok (.iload_n 2, 1) := dk_28 (dk_at dksX50_gather_4 9 rfl rfl)
theorem dX50_gather_104 : decode cX50_gather 104 = .ok (.bipush 7, 2) := dk_16 7 (dk_at dksX50_gather_4 10 rfl rfl)
theorem dX50_gather_106 : decode cX50_gather 106 = .ok (.if_icmp .ne 7, 3) := dk_160 0 7 (dk_at dksX50_gather_4 12 rfl rfl)
theorem dX50_gather_109 : decode cX50_gather 109 = .ok (.lconst 1, 1) := dk_10 (dk_at dksX50_gather_4 15 rfl rfl)
theorem dX50_gather_110 : decode cX50_gather 110 = .ok (.goto 9, 3) := dk_167 0 9 (dk_at dksX50_gather_4 16 rfl rfl)
theorem dX50_gather_113 : decode cX50_gather 113 = .ok (.aload_n 0, 1) := dk_42 (dk_at dksX50_gather_4 19 rfl rfl)
theorem dX50_gather_114 : decode cX50_gather 114 = .ok (.getfield 51, 3) := dk_180 0 51 (dk_at dksX50_gather_4 20 rfl rfl)
theorem dX50_gather_117 : decode cX50_gather 117 = .ok (.iload_n 2, 1) := dk_28 (dk_at dksX50_gather_4 23 rfl rfl)
theorem dX50_gather_118 : decode cX50_gather 118 = .ok (.laload, 1) := dk_47 (dk_at dksX50_gather_5 0 rfl rfl)
theorem dX50_gather_119 : decode cX50_gather 119 = .ok (.lconst 0, 1) := dk_9 (dk_at dksX50_gather_5 1 rfl rfl)
theorem dX50_gather_120 : decode cX50_gather 120 = .ok (.invokevirtual 196, 3) := dk_182 0 196 (dk_at dksX50_gather_5 2 rfl rfl)
theorem dX50_gather_123 : decode cX50_gather 123 = .ok (.aload_n 0, 1) := dk_42 (dk_at dksX50_gather_5 5 rfl rfl)
theorem dX50_gather_124 : decode cX50_gather 124 = .ok (.iload_n 1, 1) := dk_27 (dk_at dksX50_gather_5 6 rfl rfl)
theorem dX50_gather_125 : decode cX50_gather 125 = .ok (.aload_n 0, 1) := dk_42 (dk_at dksX50_gather_5 7 rfl rfl)
theorem dX50_gather_126 : decode cX50_gather 126 = .ok (.getfield 84, 3) := dk_180 0 84 (dk_at dksX50_gather_5 8 rfl rfl)
theorem dX50_gather_129 : decode cX50_gather 129 = .ok (.iload_n 2, 1) := dk_28 (dk_at dksX50_gather_5 11 rfl rfl)
theorem dX50_gather_130 : decode cX50_gather 130 = .ok (.laload, 1) := dk_47 (dk_at dksX50_gather_5 12 rfl rfl)
theorem dX50_gather_131 : decode cX50_gather 131 = .ok (.invokevirtual 200, 3) := dk_182 0 200 (dk_at dksX50_gather_5 13 rfl rfl)
theorem dX50_gather_134 : decode cX50_gather 134 = .ok (.iinc 2 (-1), 3) := dk_132 2 255 (dk_at dksX50_gather_5 16 rfl rfl)
theorem dX50_gather_137 : decode cX50_gather 137 = .ok (.goto (-40), 3) := dk_167 255 216 (dk_at dksX50_gather_5 19 rfl rfl)
theorem dX50_gather_140 : decode cX50_gather 140 = .ok (.return_, 1) := dk_177 (dk_at dksX50_gather_5 22 rfl rfl)
abbrev cX50_clear : ByteArray := prog_64_method_30_code
def yX50_clear : MethodName := ⟨RX50, "clear", "(I)V"⟩
def dkwX50_clear_1 : List UInt8 := [167, 255, 235, 177]
abbrev dktX50_clear_1 : List UInt8 := dkwX50_clear_1 ++ []
def dkwX50_clear_0 : List UInt8 := [3, 61, 28, 16, 24, 162, 0, 21, 42, 180, 0, 78, 16, 24, 27, 104, 28, 96, 9, 80, 132, 2, 1]
abbrev dktX50_clear_0 : List UInt8 := dkwX50_clear_0 ++ dktX50_clear_1
theorem dksX50_clear_0 : cX50_clear.data.toList.drop 0 = dktX50_clear_0 := by decide +kernel
theorem dksX50_clear_1 : cX50_clear.data.toList.drop 23 = dktX50_clear_1 := dk_seg dksX50_clear_0 23 rfl rfl
theorem dX50_clear_0 : decode cX50_clear 0 = .ok (.iconst 0, 1) := dk_3 (dk_at dksX50_clear_0 0 rfl rfl)
theorem dX50_clear_1 : decode cX50_clear 1 = .ok (.istore_n 2, 1) := dk_61 (dk_at dksX50_clear_0 1 rfl rfl)
theorem dX50_clear_2 : decode cX50_clear 2 = .ok (.iload_n 2, 1) := dk_28 (dk_at dksX50_clear_0 2 rfl rfl)
theorem dX50_clear_3 : decode cX50_clear 3 = .ok (.bipush 24, 2) := dk_16 24 (dk_at dksX50_clear_0 3 rfl rfl)
theorem dX50_clear_5 : decode cX50_clear 5 = .ok (.if_icmp .ge 21, 3) := dk_162 0 21 (dk_at dksX50_clear_0 5 rfl rfl)
theorem dX50_clear_8 : decode cX50_clear 8 = .ok (.aload_n 0, 1) := dk_42 (dk_at dksX50_clear_0 8 rfl rfl)
theorem dX50_clear_9 : decode cX50_clear 9 = .ok (.getfield 78, 3) := dk_180 0 78 (dk_at dksX50_clear_0 9 rfl rfl)
theorem dX50_clear_12 : decode cX50_clear 12 = .ok (.bipush 24, 2) := dk_16 24 (dk_at dksX50_clear_0 12 rfl rfl)
theorem dX50_clear_14 : decode cX50_clear 14 = .ok (.iload_n 1, 1) := dk_27 (dk_at dksX50_clear_0 14 rfl rfl)
theorem dX50_clear_15 : decode cX50_clear 15 = .ok (.imul, 1) := dk_104 (dk_at dksX50_clear_0 15 rfl rfl)
theorem dX50_clear_16 : decode cX50_clear 16 = .ok (.iload_n 2, 1) := dk_28 (dk_at dksX50_clear_0 16 rfl rfl)
theorem dX50_clear_17 : decode cX50_clear 17 = .ok (.iadd, 1) := dk_96 (dk_at dksX50_clear_0 17 rfl rfl)
theorem dX50_clear_18 : decode cX50_clear 18 = .ok (.lconst 0, 1) := dk_9 (dk_at dksX50_clear_0 18 rfl rfl)
theorem dX50_clear_19 : decode cX50_clear 19 = .ok (.lastore, 1) := dk_80 (dk_at dksX50_clear_0 19 rfl rfl)
theorem dX50_clear_20 : decode cX50_clear 20 = .ok (.iinc 2 1, 3) := dk_132 2 1 (dk_at dksX50_clear_0 20 rfl rfl)
theorem dX50_clear_23 : decode cX50_clear 23 = .ok (.goto (-21), 3) := dk_167 255 235 (dk_at dksX50_clear_1 0 rfl rfl)
theorem dX50_clear_26 : decode cX50_clear 26 = .ok (.return_, 1) := dk_177 (dk_at dksX50_clear_1 3 rfl rfl)
abbrev cX50_grow : ByteArray := prog_64_method_32_code
def yX50_grow : MethodName := ⟨RX50, "grow", "(IJJ)V"⟩
def dkwX50_grow_2 : List UInt8 := [20, 0, 190, 127, 80, 22, 9, 16, 28, 123, 55, 6, 132, 8, 1, 167, 255, 202, 177]
abbrev dktX50_grow_2 : List UInt8 := dkwX50_grow_2 ++ []
def dkwX50_grow_1 : List UInt8 := [96, 47, 32, 105, 22, 6, 97, 55, 9, 42, 180, 0, 78, 16, 24, 27, 104, 21, 8, 96, 22, 9]
abbrev dktX50_grow_1 : List UInt8 := dkwX50_grow_1 ++ dktX50_grow_2
def dkwX50_grow_0 : List UInt8 := [22, 4, 55, 6, 3, 54, 8, 21, 8, 16, 24, 162, 0, 53, 42, 180, 0, 78, 16, 24, 27, 104, 21, 8]
abbrev dktX50_grow_0 : List UInt8 := dkwX50_grow_0 ++ dktX50_grow_1
theorem dksX50_grow_0 : cX50_grow.data.toList.drop 0 = dktX50_grow_0 := by decide +kernel
theorem dksX50_grow_1 : cX50_grow.data.toList.drop 24 = dktX50_grow_1 := dk_seg dksX50_grow_0 24 rfl rfl
theorem dksX50_grow_2 : cX50_grow.data.toList.drop 46 = dktX50_grow_2 := dk_seg dksX50_grow_1 22 rfl rfl
theorem dX50_grow_0 : decode cX50_grow 0 = .ok (.lload 4, 2) := dk_22 4 (dk_at dksX50_grow_0 0 rfl rfl)
theorem dX50_grow_2 : decode cX50_grow 2 = .ok (.lstore 6, 2) := dk_55 6 (dk_at dksX50_grow_0 2 rfl rfl)
theorem dX50_grow_4 : decode cX50_grow 4 = .ok (.iconst 0, 1) := dk_3 (dk_at dksX50_grow_0 4 rfl rfl)
theorem dX50_grow_5 : decode cX50_grow 5 = .ok (.istore 8, 2) := dk_54 8 (dk_at dksX50_grow_0 5 rfl rfl)
theorem dX50_grow_7 : decode cX50_grow 7 = .ok (.iload 8, 2) := dk_21 8 (dk_at dksX50_grow_0 7 rfl rfl)
theorem dX50_grow_9 : decode cX50_grow 9 = .ok (.bipush 24, 2) := dk_16 24 (dk_at dksX50_grow_0 9 rfl rfl)
theorem dX50_grow_11 : decode cX50_grow 11 = .ok (.if_icmp .ge 53, 3) := dk_162 0 53 (dk_at dksX50_grow_0 11 rfl rfl)
theorem dX50_grow_14 : decode cX50_grow 14 = .ok (.aload_n 0, 1) := dk_42 (dk_at dksX50_grow_0 14 rfl rfl)
theorem dX50_grow_15 : decode cX50_grow 15 = .ok (.getfield 78, 3) := dk_180 0 78 (dk_at dksX50_grow_0 15 rfl rfl)
theorem dX50_grow_18 : decode cX50_grow 18 = .ok (.bipush 24, 2) := dk_16 24 (dk_at dksX50_grow_0 18 rfl rfl)
theorem dX50_grow_20 : decode cX50_grow 20 = .ok (.iload_n 1, 1) := dk_27 (dk_at dksX50_grow_0 20 rfl rfl)
theorem dX50_grow_21 : decode cX50_grow 21 = .ok (.imul, 1) := dk_104 (dk_at dksX50_grow_0 21 rfl rfl)
theorem dX50_grow_22 : decode cX50_grow 22 = .ok (.iload 8, 2) := dk_21 8 (dk_at dksX50_grow_0 22 rfl rfl)
theorem dX50_grow_24 : decode cX50_grow 24 = .ok (.iadd, 1) := dk_96 (dk_at dksX50_grow_1 0 rfl rfl)
theorem dX50_grow_25 : decode cX50_grow 25 = .ok (.laload, 1) := dk_47 (dk_at dksX50_grow_1 1 rfl rfl)
theorem dX50_grow_26 : decode cX50_grow 26 = .ok (.lload_n 2, 1) := dk_32 (dk_at dksX50_grow_1 2 rfl rfl)
theorem dX50_grow_27 : decode cX50_grow 27 = .ok (.lmul, 1) := dk_105 (dk_at dksX50_grow_1 3 rfl rfl)
theorem dX50_grow_28 : decode cX50_grow 28 = .ok (.lload 6, 2) := dk_22 6 (dk_at dksX50_grow_1 4 rfl rfl)
theorem dX50_grow_30 : decode cX50_grow 30 = .ok (.ladd, 1) := dk_97 (dk_at dksX50_grow_1 6 rfl rfl)
theorem dX50_grow_31 : decode cX50_grow 31 = .ok (.lstore 9, 2) := dk_55 9 (dk_at dksX50_grow_1 7 rfl rfl)
theorem dX50_grow_33 : decode cX50_grow 33 = .ok (.aload_n 0, 1) := dk_42 (dk_at dksX50_grow_1 9 rfl rfl)
theorem dX50_grow_34 : decode cX50_grow 34 = .ok (.getfield 78, 3) := dk_180 0 78 (dk_at dksX50_grow_1 10 rfl rfl)
theorem dX50_grow_37 : decode cX50_grow 37 = .ok (.bipush 24, 2) := dk_16 24 (dk_at dksX50_grow_1 13 rfl rfl)
theorem dX50_grow_39 : decode cX50_grow 39 = .ok (.iload_n 1, 1) := dk_27 (dk_at dksX50_grow_1 15 rfl rfl)
theorem dX50_grow_40 : decode cX50_grow 40 = .ok (.imul, 1) := dk_104 (dk_at dksX50_grow_1 16 rfl rfl)
theorem dX50_grow_41 : decode cX50_grow 41 = .ok (.iload 8, 2) := dk_21 8 (dk_at dksX50_grow_1 17 rfl rfl)
theorem dX50_grow_43 : decode cX50_grow 43 = .ok (.iadd, 1) := dk_96 (dk_at dksX50_grow_1 19 rfl rfl)
theorem dX50_grow_44 : decode cX50_grow 44 = .ok (.lload 9, 2) := dk_22 9 (dk_at dksX50_grow_1 20 rfl rfl)
theorem dX50_grow_46 : decode cX50_grow 46 = .ok (.ldc2_w 190, 3) := dk_20 0 190 (dk_at dksX50_grow_2 0 rfl rfl)
theorem dX50_grow_49 : decode cX50_grow 49 = .ok (.land, 1) := dk_127 (dk_at dksX50_grow_2 3 rfl rfl)
theorem dX50_grow_50 : decode cX50_grow 50 = .ok (.lastore, 1) := dk_80 (dk_at dksX50_grow_2 4 rfl rfl)
theorem dX50_grow_51 : decode cX50_grow 51 = .ok (.lload 9, 2) := dk_22 9 (dk_at dksX50_grow_2 5 rfl rfl)
theorem dX50_grow_53 : decode cX50_grow 53 = .ok (.bipush 28, 2) := dk_16 28 (dk_at dksX50_grow_2 7 rfl rfl)
theorem dX50_grow_55 : decode cX50_grow 55 = .ok (.lshr, 1) := dk_123 (dk_at dksX50_grow_2 9 rfl rfl)
theorem dX50_grow_56 : decode cX50_grow 56 = .ok (.lstore 6, 2) := dk_55 6 (dk_at dksX50_grow_2 10 rfl rfl)
theorem dX50_grow_58 : decode cX50_grow 58 = .ok (.iinc 8 1, 3) := dk_132 8 1 (dk_at dksX50_grow_2 12 rfl rfl)
theorem dX50_grow_61 : decode cX50_grow 61 = .ok (.goto (-54), 3) := dk_167 255 202 (dk_at dksX50_grow_2 15 rfl rfl)
theorem dX50_grow_64 : decode cX50_grow 64 = .ok (.return_, 1) := dk_177 (dk_at dksX50_grow_2 18 rfl rfl)
abbrev cX50_add : ByteArray := prog_64_method_38_code
def yX50_add : MethodName := ⟨RX50, "add", "(IJ)V"⟩
def dkwX50_add_2 : List UInt8 := [22, 7, 16, 28, 123, 55, 4, 132, 6, 1, 167, 255, 204, 177]
abbrev dktX50_add_2 : List UInt8 := dkwX50_add_2 ++ []
def dkwX50_add_1 : List UInt8 := [47, 22, 4, 97, 55, 7, 42, 180, 0, 78, 16, 24, 27, 104, 21, 6, 96, 22, 7, 20, 0, 190, 127, 80]
abbrev dktX50_add_1 : List UInt8 := dkwX50_add_1 ++ dktX50_add_2
def dkwX50_add_0 : List UInt8 := [32, 55, 4, 3, 54, 6, 21, 6, 16, 24, 162, 0, 51, 42, 180, 0, 78, 16, 24, 27, 104, 21, 6, 96]
abbrev dktX50_add_0 : List UInt8 := dkwX50_add_0 ++ dktX50_add_1
theorem dksX50_add_0 : cX50_add.data.toList.drop 0 = dktX50_add_0 := by decide +kernel
theorem dksX50_add_1 : cX50_add.data.toList.drop 24 = dktX50_add_1 := dk_seg dksX50_add_0 24 rfl rfl
theorem dksX50_add_2 : cX50_add.data.toList.drop 48 = dktX50_add_2 := dk_seg dksX50_add_1 24 rfl rfl
theorem dX50_add_0 : decode cX50_add 0 = .ok (.lload_n 2, 1) := dk_32 (dk_at dksX50_add_0 0 rfl rfl)
theorem dX50_add_1 : decode cX50_add 1 = .ok (.lstore 4, 2) := dk_55 4 (dk_at dksX50_add_0 1 rfl rfl)
theorem dX50_add_3 : decode cX50_add 3 = .ok (.iconst 0, 1) := dk_3 (dk_at dksX50_add_0 3 rfl rfl)
theorem dX50_add_4 : decode cX50_add 4 = .ok (.istore 6, 2) := dk_54 6 (dk_at dksX50_add_0 4 rfl rfl)
theorem dX50_add_6 : decode cX50_add 6 = .ok (.iload 6, 2) := dk_21 6 (dk_at dksX50_add_0 6 rfl rfl)
theorem dX50_add_8 : decode cX50_add 8 = .ok (.bipush 24, 2) := dk_16 24 (dk_at dksX50_add_0 8 rfl rfl)
theorem dX50_add_10 : decode cX50_add 10 = .ok (.if_icmp .ge 51, 3) := dk_162 0 51 (dk_at dksX50_add_0 10 rfl rfl)
theorem dX50_add_13 : decode cX50_add 13 = .ok (.aload_n 0, 1) := dk_42 (dk_at dksX50_add_0 13 rfl rfl)
theorem dX50_add_14 : decode cX50_add 14 = .ok (.getfield 78, 3) := dk_180 0 78 (dk_at dksX50_add_0 14 rfl rfl)
theorem dX50_add_17 : decode cX50_add 17 = .ok (.bipush 24, 2) := dk_16 24 (dk_at dksX50_add_0 17 rfl rfl)
theorem dX50_add_19 : decode cX50_add 19 = .ok (.iload_n 1, 1) := dk_27 (dk_at dksX50_add_0 19 rfl rfl)
theorem dX50_add_20 : decode cX50_add 20 = .ok (.imul, 1) := dk_104 (dk_at dksX50_add_0 20 rfl rfl)
theorem dX50_add_21 : decode cX50_add 21 = .ok (.iload 6, 2) := dk_21 6 (dk_at dksX50_add_0 21 rfl rfl)
theorem dX50_add_23 : decode cX50_add 23 = .ok (.iadd, 1) := dk_96 (dk_at dksX50_add_0 23 rfl rfl)
theorem dX50_add_24 : decode cX50_add 24 = .ok (.laload, 1) := dk_47 (dk_at dksX50_add_1 0 rfl rfl)
theorem dX50_add_25 : decode cX50_add 25 = .ok (.lload 4, 2) := dk_22 4 (dk_at dksX50_add_1 1 rfl rfl)
theorem dX50_add_27 : decode cX50_add 27 = .ok (.ladd, 1) := dk_97 (dk_at dksX50_add_1 3 rfl rfl)
theorem dX50_add_28 : decode cX50_add 28 = .ok (.lstore 7, 2) := dk_55 7 (dk_at dksX50_add_1 4 rfl rfl)
theorem dX50_add_30 : decode cX50_add 30 = .ok (.aload_n 0, 1) := dk_42 (dk_at dksX50_add_1 6 rfl rfl)
theorem dX50_add_31 : decode cX50_add 31 = .ok (.getfield 78, 3) := dk_180 0 78 (dk_at dksX50_add_1 7 rfl rfl)
theorem dX50_add_34 : decode cX50_add 34 = .ok (.bipush 24, 2) := dk_16 24 (dk_at dksX50_add_1 10 rfl rfl)
theorem dX50_add_36 : decode cX50_add 36 = .ok (.iload_n 1, 1) := dk_27 (dk_at dksX50_add_1 12 rfl rfl)
theorem dX50_add_37 : decode cX50_add 37 = .ok (.imul, 1) := dk_104 (dk_at dksX50_add_1 13 rfl rfl)
theorem dX50_add_38 : decode cX50_add 38 = .ok (.iload 6, 2) := dk_21 6 (dk_at dksX50_add_1 14 rfl rfl)
theorem dX50_add_40 : decode cX50_add 40 = .ok (.iadd, 1) := dk_96 (dk_at dksX50_add_1 16 rfl rfl)
theorem dX50_add_41 : decode cX50_add 41 = .ok (.lload 7, 2) := dk_22 7 (dk_at dksX50_add_1 17 rfl rfl)
theorem dX50_add_43 : decode cX50_add 43 = .ok (.ldc2_w 190, 3) := dk_20 0 190 (dk_at dksX50_add_1 19 rfl rfl)
theorem dX50_add_46 : decode cX50_add 46 = .ok (.land, 1) := dk_127 (dk_at dksX50_add_1 22 rfl rfl)
theorem dX50_add_47 : decode cX50_add 47 = .ok (.lastore, 1) := dk_80 (dk_at dksX50_add_1 23 rfl rfl)
theorem dX50_add_48 : decode cX50_add 48 = .ok (.lload 7, 2) := dk_22 7 (dk_at dksX50_add_2 0 rfl rfl)
theorem dX50_add_50 : decode cX50_add 50 = .ok (.bipush 28, 2) := dk_16 28 (dk_at dksX50_add_2 2 rfl rfl)
theorem dX50_add_52 : decode cX50_add 52 = .ok (.lshr, 1) := dk_123 (dk_at dksX50_add_2 4 rfl rfl)
theorem dX50_add_53 : decode cX50_add 53 = .ok (.lstore 4, 2) := dk_55 4 (dk_at dksX50_add_2 5 rfl rfl)
theorem dX50_add_55 : decode cX50_add 55 = .ok (.iinc 6 1, 3) := dk_132 6 1 (dk_at dksX50_add_2 7 rfl rfl)
theorem dX50_add_58 : decode cX50_add 58 = .ok (.goto (-52), 3) := dk_167 255 204 (dk_at dksX50_add_2 10 rfl rfl)
theorem dX50_add_61 : decode cX50_add 61 = .ok (.return_, 1) := dk_177 (dk_at dksX50_add_2 13 rfl rfl)
abbrev cX50_clearWeights : ByteArray := prog_64_method_45_code
def yX50_clearWeights : MethodName := ⟨RX50, "clearWeights", "()V"⟩
def dkwX50_clearWeights_0 : List UInt8 := [3, 60, 27, 16, 9, 162, 0, 16, 42, 180, 0, 87, 27, 9, 80, 132, 1, 1, 167, 255, 240, 177]
abbrev dktX50_clearWeights_0 : List UInt8 := dkwX50_clearWeights_0 ++ []
theorem dksX50_clearWeights_0 : cX50_clearWeights.data.toList.drop 0 = dktX50_clearWeights_0 := by decide +kernel
theorem dX50_clearWeights_0 : decode cX50_clearWeights 0 = .ok (.iconst 0, 1) := dk_3 (dk_at dksX50_clearWeights_0 0 rfl rfl)
theorem dX50_clearWeights_1 : decode cX50_clearWeights 1 = .ok (.istore_n 1, 1) := dk_60 (dk_at dksX50_clearWeights_0 1 rfl rfl)
theorem dX50_clearWeights_2 : decode cX50_clearWeights 2 = .ok (.iload_n 1, 1) := dk_27 (dk_at dksX50_clearWeights_0 2 rfl rfl)
theorem dX50_clearWeights_3 : decode cX50_clearWeights 3 = .ok (.bipush 9, 2) := dk_16 9 (dk_at dksX50_clearWeights_0 3 rfl rfl)
theorem dX50_clearWeights_5 : decode cX50_clearWeights 5 = .ok (.if_icmp .ge 16, 3) := dk_162 0 16 (dk_at dksX50_clearWeights_0 5 rfl rfl)
theorem dX50_clearWeights_8 : decode cX50_clearWeights 8 = .ok (.aload_n 0, 1) := dk_42 (dk_at dksX50_clearWeights_0 8 rfl rfl)
theorem dX50_clearWeights_9 : decode cX50_clearWeights 9 = .ok (.getfield 87, 3) := dk_180 0 87 (dk_at dksX50_clearWeights_0 9 rfl rfl)
theorem dX50_clearWeights_12 : decode cX50_clearWeights 12 = .ok (.iload_n 1, 1) := dk_27 (dk_at dksX50_clearWeights_0 12 rfl rfl)
theorem dX50_clearWeights_13 : decode cX50_clearWeights 13 = .ok (.lconst 0, 1) := dk_9 (dk_at dksX50_clearWeights_0 13 rfl rfl)
theorem dX50_clearWeights_14 : decode cX50_clearWeights 14 = .ok (.lastore, 1) := dk_80 (dk_at dksX50_clearWeights_0 14 rfl rfl)
theorem dX50_clearWeights_15 : decode cX50_clearWeights 15 = .ok (.iinc 1 1, 3) := dk_132 1 1 (dk_at dksX50_clearWeights_0 15 rfl rfl)
theorem dX50_clearWeights_18 : decode cX50_clearWeights 18 = .ok (.goto (-16), 3) := dk_167 255 240 (dk_at dksX50_clearWeights_0 18 rfl rfl)
theorem dX50_clearWeights_21 : decode cX50_clearWeights 21 = .ok (.return_, 1) := dk_177 (dk_at dksX50_clearWeights_0 21 rfl rfl)
abbrev cX50_weighPort : ByteArray := prog_64_method_49_code
def yX50_weighPort : MethodName := ⟨RX50, "weighPort", "(III)V"⟩
def dkwX50_weighPort_6 : List UInt8 := [132, 7, 1, 167, 255, 152, 132, 6, 1, 167, 255, 126, 132, 4, 1, 167, 255, 104, 177]
abbrev dktX50_weighPort_6 : List UInt8 := dkwX50_weighPort_6 ++ []
def dkwX50_weighPort_5 : List UInt8 := [180, 0, 60, 16, 9, 6, 21, 6, 104, 21, 7, 96, 104, 21, 4, 96, 47, 167, 0, 4, 9, 97, 80]
abbrev dktX50_weighPort_5 : List UInt8 := dkwX50_weighPort_5 ++ dktX50_weighPort_6
def dkwX50_weighPort_4 : List UInt8 := [160, 0, 7, 4, 167, 0, 4, 3, 54, 8, 42, 180, 0, 87, 21, 4, 92, 47, 21, 8, 153, 0, 24, 42]
abbrev dktX50_weighPort_4 : List UInt8 := dkwX50_weighPort_4 ++ dktX50_weighPort_5
def dkwX50_weighPort_3 : List UInt8 := [6, 21, 5, 104, 96, 21, 6, 96, 46, 16, 254, 28, 100, 160, 0, 18, 29, 2, 159, 0, 9, 29, 21, 7]
abbrev dktX50_weighPort_3 : List UInt8 := dkwX50_weighPort_3 ++ dktX50_weighPort_4
def dkwX50_weighPort_2 : List UInt8 := [21, 6, 42, 180, 0, 16, 6, 27, 104, 21, 5, 96, 46, 162, 0, 42, 42, 180, 0, 19, 16, 9, 27, 104]
abbrev dktX50_weighPort_2 : List UInt8 := dkwX50_weighPort_2 ++ dktX50_weighPort_3
def dkwX50_weighPort_1 : List UInt8 := [162, 0, 130, 21, 5, 42, 180, 0, 7, 27, 46, 162, 0, 119, 3, 54, 7, 21, 7, 6, 162, 0, 104]
abbrev dktX50_weighPort_1 : List UInt8 := dkwX50_weighPort_1 ++ dktX50_weighPort_2
def dkwX50_weighPort_0 : List UInt8 := [3, 54, 4, 21, 4, 16, 9, 162, 0, 151, 21, 4, 6, 108, 54, 5, 3, 54, 6, 21, 6, 6]
abbrev dktX50_weighPort_0 : List UInt8 := dkwX50_weighPort_0 ++ dktX50_weighPort_1
theorem dksX50_weighPort_0 : cX50_weighPort.data.toList.drop 0 = dktX50_weighPort_0 := by decide +kernel
theorem dksX50_weighPort_1 : cX50_weighPort.data.toList.drop 22 = dktX50_weighPort_1 := dk_seg dksX50_weighPort_0 22 rfl rfl
theorem dksX50_weighPort_2 : cX50_weighPort.data.toList.drop 45 = dktX50_weighPort_2 := dk_seg dksX50_weighPort_1 23 rfl rfl
theorem dksX50_weighPort_3 : cX50_weighPort.data.toList.drop 69 = dktX50_weighPort_3 := dk_seg dksX50_weighPort_2 24 rfl rfl
theorem dksX50_weighPort_4 : cX50_weighPort.data.toList.drop 93 = dktX50_weighPort_4 := dk_seg dksX50_weighPort_3 24 rfl rfl
theorem dksX50_weighPort_5 : cX50_weighPort.data.toList.drop 117 = dktX50_weighPort_5 := dk_seg dksX50_weighPort_4 24 rfl rfl
theorem dksX50_weighPort_6 : cX50_weighPort.data.toList.drop 140 = dktX50_weighPort_6 := dk_seg dksX50_weighPort_5 23 rfl rfl
theorem dX50_weighPort_0 : decode cX50_weighPort 0 = .ok (.iconst 0, 1) := dk_3 (dk_at dksX50_weighPort_0 0 rfl rfl)
theorem dX50_weighPort_1 : decode cX50_weighPort 1 = .ok (.istore 4, 2) := dk_54 4 (dk_at dksX50_weighPort_0 1 rfl rfl)
theorem dX50_weighPort_3 : decode cX50_weighPort 3 = .ok (.iload 4, 2) := dk_21 4 (dk_at dksX50_weighPort_0 3 rfl rfl)
theorem dX50_weighPort_5 : decode cX50_weighPort 5 = .ok (.bipush 9, 2) := dk_16 9 (dk_at dksX50_weighPort_0 5 rfl rfl)
theorem dX50_weighPort_7 : decode cX50_weighPort 7 = .ok (.if_icmp .ge 151, 3) := dk_162 0 151 (dk_at dksX50_weighPort_0 7 rfl rfl)
theorem dX50_weighPort_10 : decode cX50_weighPort 10 = .ok (.iload 4, 2) := dk_21 4 (dk_at dksX50_weighPort_0 10 rfl rfl)
theorem dX50_weighPort_12 : decode cX50_weighPort 12 = .ok (.iconst 3, 1) := dk_6 (dk_at dksX50_weighPort_0 12 rfl rfl)
theorem dX50_weighPort_13 : decode cX50_weighPort 13 = .ok (.idiv, 1) := dk_108 (dk_at dksX50_weighPort_0 13 rfl rfl)
theorem dX50_weighPort_14 : decode cX50_weighPort 14 = .ok (.istore 5, 2) := dk_54 5 (dk_at dksX50_weighPort_0 14 rfl rfl)
theorem dX50_weighPort_16 : decode cX50_weighPort 16 = .ok (.iconst 0, 1) := dk_3 (dk_at dksX50_weighPort_0 16 rfl rfl)
theorem dX50_weighPort_17 : decode cX50_weighPort 17 = .ok (.istore 6, 2) := dk_54 6 (dk_at dksX50_weighPort_0 17 rfl rfl)
theorem dX50_weighPort_19 : decode cX50_weighPort 19 = .ok (.iload 6, 2) := dk_21 6 (dk_at dksX50_weighPort_0 19 rfl rfl)
theorem dX50_weighPort_21 : decode cX50_weighPort 21 = .ok (.iconst 3, 1) := dk_6 (dk_at dksX50_weighPort_0 21 rfl rfl)
theorem dX50_weighPort_22 : decode cX50_weighPort 22 = .ok (.if_icmp .ge 130, 3) := dk_162 0 130 (dk_at dksX50_weighPort_1 0 rfl rfl)
theorem dX50_weighPort_25 : decode cX50_weighPort 25 = .ok (.iload 5, 2) := dk_21 5 (dk_at dksX50_weighPort_1 3 rfl rfl)
theorem dX50_weighPort_27 : decode cX50_weighPort 27 = .ok (.aload_n 0, 1) := dk_42 (dk_at dksX50_weighPort_1 5 rfl rfl)
theorem dX50_weighPort_28 : decode cX50_weighPort 28 = .ok (.getfield 7, 3) := dk_180 0 7 (dk_at dksX50_weighPort_1 6 rfl rfl)
theorem dX50_weighPort_31 : decode cX50_weighPort 31 = .ok (.iload_n 1, 1) := dk_27 (dk_at dksX50_weighPort_1 9 rfl rfl)
theorem dX50_weighPort_32 : decode cX50_weighPort 32 = .ok (.iaload, 1) := dk_46 (dk_at dksX50_weighPort_1 10 rfl rfl)
theorem dX50_weighPort_33 : decode cX50_weighPort 33 = .ok (.if_icmp .ge 119, 3) := dk_162 0 119 (dk_at dksX50_weighPort_1 11 rfl rfl)
theorem dX50_weighPort_36 : decode cX50_weighPort 36 = .ok (.iconst 0, 1) := dk_3 (dk_at dksX50_weighPort_1 14 rfl rfl)
theorem dX50_weighPort_37 : decode cX50_weighPort 37 = .ok (.istore 7, 2) := dk_54 7 (dk_at dksX50_weighPort_1 15 rfl rfl)
theorem dX50_weighPort_39 : decode cX50_weighPort 39 = .ok (.iload 7, 2) := dk_21 7 (dk_at dksX50_weighPort_1 17 rfl rfl)
theorem dX50_weighPort_41 : decode cX50_weighPort 41 = .ok (.iconst 3, 1) := dk_6 (dk_at dksX50_weighPort_1 19 rfl rfl)
theorem dX50_weighPort_42 : decode cX50_weighPort 42 = .ok (.if_icmp .ge 104, 3) := dk_162 0 104 (dk_at dksX50_weighPort_1 20 rfl rfl)
theorem dX50_weighPort_45 : decode cX50_weighPort 45 = .ok (.iload 6, 2) := dk_21 6 (dk_at dksX50_weighPort_2 0 rfl rfl)
theorem dX50_weighPort_47 : decode cX50_weighPort 47 = .ok (.aload_n 0, 1) := dk_42 (dk_at dksX50_weighPort_2 2 rfl rfl)
theorem dX50_weighPort_48 : decode cX50_weighPort 48 = .ok (.getfield 16, 3) := dk_180 0 16 (dk_at dksX50_weighPort_2 3 rfl rfl)
theorem dX50_weighPort_51 : decode cX50_weighPort 51 = .ok (.iconst 3, 1) := dk_6 (dk_at dksX50_weighPort_2 6 rfl rfl)
theorem dX50_weighPort_52 : decode cX50_weighPort 52 = .ok (.iload_n 1, 1) := dk_27 (dk_at dksX50_weighPort_2 7 rfl rfl)
theorem dX50_weighPort_53 : decode cX50_weighPort 53 = .ok (.imul, 1) := dk_104 (dk_at dksX50_weighPort_2 8 rfl rfl)
theorem dX50_weighPort_54 : decode cX50_weighPort 54 = .ok (.iload 5, 2) := dk_21 5 (dk_at dksX50_weighPort_2 9 rfl rfl)
theorem dX50_weighPort_56 : decode cX50_weighPort 56 = .ok (.iadd, 1) := dk_96 (dk_at dksX50_weighPort_2 11 rfl rfl)
theorem dX50_weighPort_57 : decode cX50_weighPort 57 = .ok (.iaload, 1) := dk_46 (dk_at dksX50_weighPort_2 12 rfl rfl)
theorem dX50_weighPort_58 : decode cX50_weighPort 58 = .ok (.if_icmp .ge 42, 3) := dk_162 0 42 (dk_at dksX50_weighPort_2 13 rfl rfl)
theorem dX50_weighPort_61 : decode cX50_weighPort 61 = .ok (.aload_n 0, 1) := dk_42 (dk_at dksX50_weighPort_2 16 rfl rfl)
theorem dX50_weighPort_62 : decode cX50_weighPort 62 = .ok (.getfield 19, 3) := dk_180 0 19 (dk_at dksX50_weighPort_2 17 rfl rfl)
theorem dX50_weighPort_65 : decode cX50_weighPort 65 = .ok (.bipush 9, 2) := dk_16 9 (dk_at dksX50_weighPort_2 20 rfl rfl)
theorem dX50_weighPort_67 : decode cX50_weighPort 67 = .ok (.iload_n 1, 1) := dk_27 (dk_at dksX50_weighPort_2 22 rfl rfl)
theorem dX50_weighPort_68 : decode cX50_weighPort 68 = .ok (.imul, 1) := dk_104 (dk_at dksX50_weighPort_2 23 rfl rfl)
theorem dX50_weighPort_69 : decode cX50_weighPort 69 = .ok (.iconst 3, 1) := dk_6 (dk_at dksX50_weighPort_3 0 rfl rfl)
theorem dX50_weighPort_70 : decode cX50_weighPort 70 = .ok (.iload 5, 2) := dk_21 5 (dk_at dksX50_weighPort_3 1 rfl rfl)
theorem dX50_weighPort_72 : decode cX50_weighPort 72 = .ok (.imul, 1) := dk_104 (dk_at dksX50_weighPort_3 3 rfl rfl)
theorem dX50_weighPort_73 : decode cX50_weighPort 73 = .ok (.iadd, 1) := dk_96 (dk_at dksX50_weighPort_3 4 rfl rfl)
theorem dX50_weighPort_74 : decode cX50_weighPort 74 = .ok (.iload 6, 2) := dk_21 6 (dk_at dksX50_weighPort_3 5 rfl rfl)
theorem dX50_weighPort_76 : decode cX50_weighPort 76 = .ok (.iadd, 1) := dk_96 (dk_at dksX50_weighPort_3 7 rfl rfl)
theorem dX50_weighPort_77 : decode cX50_weighPort 77 = .ok (.iaload, 1) := dk_46 (dk_at dksX50_weighPort_3 8 rfl rfl)
theorem dX50_weighPort_78 : decode cX50_weighPort 78 = .ok (.bipush (-2), 2) := dk_16 254 (dk_at dksX50_weighPort_3 9 rfl rfl)
theorem dX50_weighPort_80 : decode cX50_weighPort 80 = .ok (.iload_n 2, 1) := dk_28 (dk_at dksX50_weighPort_3 11 rfl rfl)
theorem dX50_weighPort_81 : decode cX50_weighPort 81 = .ok (.isub, 1) := dk_100 (dk_at dksX50_weighPort_3 12 rfl rfl)
theorem dX50_weighPort_82 : decode cX50_weighPort 82 = .ok (.if_icmp .ne 18, 3) := dk_160 0 18 (dk_at dksX50_weighPort_3 13 rfl rfl)
theorem dX50_weighPort_85 : decode cX50_weighPort 85 = .ok (.iload_n 3, 1) := dk_29 (dk_at dksX50_weighPort_3 16 rfl rfl)
theorem dX50_weighPort_86 : decode cX50_weighPort 86 = .ok (.iconst (-1), 1) := dk_2 (dk_at dksX50_weighPort_3 17 rfl rfl)
theorem dX50_weighPort_87 : decode cX50_weighPort 87 = .ok (.if_icmp .eq 9, 3) := dk_159 0 9 (dk_at dksX50_weighPort_3 18 rfl rfl)
theorem dX50_weighPort_90 : decode cX50_weighPort 90 = .ok (.iload_n 3, 1) := dk_29 (dk_at dksX50_weighPort_3 21 rfl rfl)
theorem dX50_weighPort_91 : decode cX50_weighPort 91 = .ok (.iload 7, 2) := dk_21 7 (dk_at dksX50_weighPort_3 22 rfl rfl)
theorem dX50_weighPort_93 : decode cX50_weighPort 93 = .ok (.if_icmp .ne 7, 3) := dk_160 0 7 (dk_at dksX50_weighPort_4 0 rfl rfl)
theorem dX50_weighPort_96 : decode cX50_weighPort 96 = .ok (.iconst 1, 1) := dk_4 (dk_at dksX50_weighPort_4 3 rfl rfl)
theorem dX50_weighPort_97 : decode cX50_weighPort 97 = .ok (.goto 4, 3) := dk_167 0 4 (dk_at dksX50_weighPort_4 4 rfl rfl)
theorem dX50_weighPort_100 : decode cX50_weighPort 100 = .ok (.iconst 0, 1) := dk_3 (dk_at dksX50_weighPort_4 7 rfl rfl)
theorem dX50_weighPort_101 : decode cX50_weighPort 101 = .ok (.istore 8, 2) := dk_54 8 (dk_at dksX50_weighPort_4 8 rfl rfl)
theorem dX50_weighPort_103 : decode cX50_weighPort 103 = .ok (.aload_n 0, 1) := dk_42 (dk_at dksX50_weighPort_4 10 rfl rfl)
theorem dX50_weighPort_104 : decode cX50_weighPort 104 = .ok (.getfield 87, 3) := dk_180 0 87 (dk_at dksX50_weighPort_4 11 rfl rfl)
theorem dX50_weighPort_107 : decode cX50_weighPort 107 = .ok (.iload 4, 2) := dk_21 4 (dk_at dksX50_weighPort_4 14 rfl rfl)
theorem dX50_weighPort_109 : decode cX50_weighPort 109 = .ok (.dup2, 1) := dk_92 (dk_at dksX50_weighPort_4 16 rfl rfl)
theorem dX50_weighPort_110 : decode cX50_weighPort 110 = .ok (.laload, 1) := dk_47 (dk_at dksX50_weighPort_4 17 rfl rfl)
theorem dX50_weighPort_111 : decode cX50_weighPort 111 = .ok (.iload 8, 2) := dk_21 8 (dk_at dksX50_weighPort_4 18 rfl rfl)
theorem dX50_weighPort_113 : decode cX50_weighPort 113 = .ok (.ifCond .eq 24, 3) := dk_153 0 24 (dk_at dksX50_weighPort_4 20 rfl rfl)
theorem dX50_weighPort_116 : decode cX50_weighPort 116 = .ok (.aload_n 0, 1) := dk_42 (dk_at dksX50_weighPort_4 23 rfl rfl)
theorem dX50_weighPort_117 : decode cX50_weighPort 117 = .ok (.getfield 60, 3) := dk_180 0 60 (dk_at dksX50_weighPort_5 0 rfl rfl)
theorem dX50_weighPort_120 : decode cX50_weighPort 120 = .ok (.bipush 9, 2) := dk_16 9 (dk_at dksX50_weighPort_5 3 rfl rfl)
theorem dX50_weighPort_122 : decode cX50_weighPort 122 = .ok (.iconst 3, 1) := dk_6 (dk_at dksX50_weighPort_5 5 rfl rfl)
theorem dX50_weighPort_123 : decode cX50_weighPort 123 = .ok (.iload 6, 2) := dk_21 6 (dk_at dksX50_weighPort_5 6 rfl rfl)
theorem dX50_weighPort_125 : decode cX50_weighPort 125 = .ok (.imul, 1) := dk_104 (dk_at dksX50_weighPort_5 8 rfl rfl)
theorem dX50_weighPort_126 : decode cX50_weighPort 126 = .ok (.iload 7, 2) := dk_21 7 (dk_at dksX50_weighPort_5 9 rfl rfl)
theorem dX50_weighPort_128 : decode cX50_weighPort 128 = .ok (.iadd, 1) := dk_96 (dk_at dksX50_weighPort_5 11 rfl rfl)
theorem dX50_weighPort_129 : decode cX50_weighPort 129 = .ok (.imul, 1) := dk_104 (dk_at dksX50_weighPort_5 12 rfl rfl)
theorem dX50_weighPort_130 : decode cX50_weighPort 130 = .ok (.iload 4, 2) := dk_21 4 (dk_at dksX50_weighPort_5 13 rfl rfl)
theorem dX50_weighPort_132 : decode cX50_weighPort 132 = .ok (.iadd, 1) := dk_96 (dk_at dksX50_weighPort_5 15 rfl rfl)
theorem dX50_weighPort_133 : decode cX50_weighPort 133 = .ok (.laload, 1) := dk_47 (dk_at dksX50_weighPort_5 16 rfl rfl)
theorem dX50_weighPort_134 : decode cX50_weighPort 134 = .ok (.goto 4, 3) := dk_167 0 4 (dk_at dksX50_weighPort_5 17 rfl rfl)
theorem dX50_weighPort_137 : decode cX50_weighPort 137 = .ok (.lconst 0, 1) := dk_9 (dk_at dksX50_weighPort_5 20 rfl rfl)
theorem dX50_weighPort_138 : decode cX50_weighPort 138 = .ok (.ladd, 1) := dk_97 (dk_at dksX50_weighPort_5 21 rfl rfl)
theorem dX50_weighPort_139 : decode cX50_weighPort 139 = .ok (.lastore, 1) := dk_80 (dk_at dksX50_weighPort_5 22 rfl rfl)
theorem dX50_weighPort_140 : decode cX50_weighPort 140 = .ok (.iinc 7 1, 3) := dk_132 7 1 (dk_at dksX50_weighPort_6 0 rfl rfl)
theorem dX50_weighPort_143 : decode cX50_weighPort 143 = .ok (.goto (-104), 3) := dk_167 255 152 (dk_at dksX50_weighPort_6 3 rfl rfl)
theorem dX50_weighPort_146 : decode cX50_weighPort 146 = .ok (.iinc 6 1, 3) := dk_132 6 1 (dk_at dksX50_weighPort_6 6 rfl rfl)
theorem dX50_weighPort_149 : decode cX50_weighPort 149 = .ok (.goto (-130), 3) := dk_167 255 126 (dk_at dksX50_weighPort_6 9 rfl rfl)
theorem dX50_weighPort_152 : decode cX50_weighPort 152 = .ok (.iinc 4 1, 3) := dk_132 4 1 (dk_at dksX50_weighPort_6 12 rfl rfl)
theorem dX50_weighPort_155 : decode cX50_weighPort 155 = .ok (.goto (-152), 3) := dk_167 255 104 (dk_at dksX50_weighPort_6 15 rfl rfl)
theorem dX50_weighPort_158 : decode cX50_weighPort 158 = .ok (.return_, 1) := dk_177 (dk_at dksX50_weighPort_6 18 rfl rfl)
abbrev cX50_gatherAmount : ByteArray := prog_64_method_47_code
def yX50_gatherAmount : MethodName := ⟨RX50, "gatherAmount", "(II)V"⟩
def dkwX50_gatherAmount_5 : List UInt8 := [22, 6, 80, 132, 3, 1, 167, 255, 132, 42, 28, 182, 0, 239, 177]
abbrev dktX50_gatherAmount_5 : List UInt8 := dkwX50_gatherAmount_5 ++ []
def dkwX50_gatherAmount_4 : List UInt8 := [21, 8, 47, 22, 4, 113, 105, 97, 22, 4, 113, 55, 6, 132, 8, 1, 167, 255, 166, 42, 180, 0, 81, 29]
abbrev dktX50_gatherAmount_4 : List UInt8 := dkwX50_gatherAmount_4 ++ dktX50_gatherAmount_5
def dkwX50_gatherAmount_3 : List UInt8 := [96, 46, 133, 105, 97, 22, 4, 113, 55, 9, 132, 11, 1, 167, 255, 206, 22, 6, 22, 9, 42, 180, 0, 87]
abbrev dktX50_gatherAmount_3 : List UInt8 := dkwX50_gatherAmount_3 ++ dktX50_gatherAmount_4
def dkwX50_gatherAmount_2 : List UInt8 := [16, 81, 29, 104, 16, 9, 21, 8, 104, 96, 21, 11, 96, 47, 42, 180, 0, 37, 16, 9, 27, 104, 21, 11]
abbrev dktX50_gatherAmount_2 : List UInt8 := dkwX50_gatherAmount_2 ++ dktX50_gatherAmount_3
def dkwX50_gatherAmount_1 : List UInt8 := [16, 9, 162, 0, 89, 9, 55, 9, 3, 54, 11, 21, 11, 16, 9, 162, 0, 49, 22, 9, 42, 180, 0, 72]
abbrev dktX50_gatherAmount_1 : List UInt8 := dkwX50_gatherAmount_1 ++ dktX50_gatherAmount_2
def dkwX50_gatherAmount_0 : List UInt8 := [3, 62, 29, 16, 8, 162, 0, 124, 42, 180, 0, 51, 29, 47, 55, 4, 9, 55, 6, 3, 54, 8, 21, 8]
abbrev dktX50_gatherAmount_0 : List UInt8 := dkwX50_gatherAmount_0 ++ dktX50_gatherAmount_1
theorem dksX50_gatherAmount_0 : cX50_gatherAmount.data.toList.drop 0 = dktX50_gatherAmount_0 := by decide +kernel
theorem dksX50_gatherAmount_1 : cX50_gatherAmount.data.toList.drop 24 = dktX50_gatherAmount_1 := dk_seg dksX50_gatherAmount_0 24 rfl rfl
theorem dksX50_gatherAmount_2 : cX50_gatherAmount.data.toList.drop 48 = dktX50_gatherAmount_2 := dk_seg dksX50_gatherAmount_1 24 rfl rfl
theorem dksX50_gatherAmount_3 : cX50_gatherAmount.data.toList.drop 72 = dktX50_gatherAmount_3 := dk_seg dksX50_gatherAmount_2 24 rfl rfl
theorem dksX50_gatherAmount_4 : cX50_gatherAmount.data.toList.drop 96 = dktX50_gatherAmount_4 := dk_seg dksX50_gatherAmount_3 24 rfl rfl
theorem dksX50_gatherAmount_5 : cX50_gatherAmount.data.toList.drop 120 = dktX50_gatherAmount_5 := dk_seg dksX50_gatherAmount_4 24 rfl rfl
theorem dX50_gatherAmount_0 : decode cX50_gatherAmount 0 = .ok (.iconst 0, 1) := dk_3 (dk_at dksX50_gatherAmount_0 0 rfl rfl)
theorem dX50_gatherAmount_1 : decode cX50_gatherAmount 1 = .ok (.istore_n 3, 1) := dk_62 (dk_at dksX50_gatherAmount_0 1 rfl rfl)
theorem dX50_gatherAmount_2 : decode cX50_gatherAmount 2 = .ok (.iload_n 3, 1) := dk_29 (dk_at dksX50_gatherAmount_0 2 rfl rfl)
theorem dX50_gatherAmount_3 : decode cX50_gatherAmount 3 = .ok (.bipush 8, 2) := dk_16 8 (dk_at dksX50_gatherAmount_0 3 rfl rfl)
theorem dX50_gatherAmount_5 : decode cX50_gatherAmount 5 = .ok (.if_icmp .ge 124, 3) := dk_162 0 124 (dk_at dksX50_gatherAmount_0 5 rfl rfl)
theorem dX50_gatherAmount_8 : decode cX50_gatherAmount 8 = .ok (.aload_n 0, 1) := dk_42 (dk_at dksX50_gatherAmount_0 8 rfl rfl)
theorem dX50_gatherAmount_9 : decode cX50_gatherAmount 9 = .ok (.getfield 51, 3) := dk_180 0 51 (dk_at dksX50_gatherAmount_0 9 rfl rfl)
theorem dX50_gatherAmount_12 : decode cX50_gatherAmount 12 = .ok (.iload_n 3, 1) := dk_29 (dk_at dksX50_gatherAmount_0 12 rfl rfl)
theorem dX50_gatherAmount_13 : decode cX50_gatherAmount 13 = .ok (.laload, 1) := dk_47 (dk_at dksX50_gatherAmount_0 13 rfl rfl)
theorem dX50_gatherAmount_14 : decode cX50_gatherAmount 14 = .ok (.lstore 4, 2) := dk_55 4 (dk_at dksX50_gatherAmount_0 14 rfl rfl)
theorem dX50_gatherAmount_16 : decode cX50_gatherAmount 16 = .ok (.lconst 0, 1) := dk_9 (dk_at dksX50_gatherAmount_0 16 rfl rfl)
theorem dX50_gatherAmount_17 : decode cX50_gatherAmount 17 = .ok (.lstore 6, 2) := dk_55 6 (dk_at dksX50_gatherAmount_0 17 rfl rfl)
theorem dX50_gatherAmount_19 : decode cX50_gatherAmount 19 = .ok (.iconst 0, 1) := dk_3 (dk_at dksX50_gatherAmount_0 19 rfl rfl)
theorem dX50_gatherAmount_20 : decode cX50_gatherAmount 20 = .ok (.istore 8, 2) := dk_54 8 (dk_at dksX50_gatherAmount_0 20 rfl rfl)
theorem dX50_gatherAmount_22 : decode cX50_gatherAmount 22 = .ok (.iload 8, 2) := dk_21 8 (dk_at dksX50_gatherAmount_0 22 rfl rfl)
theorem dX50_gatherAmount_24 : decode cX50_gatherAmount 24 = .ok (.bipush 9, 2) := dk_16 9 (dk_at dksX50_gatherAmount_1 0 rfl rfl)
theorem dX50_gatherAmount_26 : decode cX50_gatherAmount 26 = .ok (.if_icmp .ge 89, 3) := dk_162 0 89 (dk_at dksX50_gatherAmount_1 2 rfl rfl)
theorem dX50_gatherAmount_29 : decode cX50_gatherAmount 29 = .ok (.lconst 0, 1) := dk_9 (dk_at dksX50_gatherAmount_1 5 rfl rfl)
theorem dX50_gatherAmount_30 : decode cX50_gatherAmount 30 = .ok (.lstore 9, 2) := dk_55 9 (dk_at dksX50_gatherAmount_1 6 rfl rfl)
theorem dX50_gatherAmount_32 : decode cX50_gatherAmount 32 = .ok (.iconst 0, 1) := dk_3 (dk_at dksX50_gatherAmount_1 8 rfl rfl)
theorem dX50_gatherAmount_33 : decode cX50_gatherAmount 33 = .ok (.istore 11, 2) := dk_54 11 (dk_at dksX50_gatherAmount_1 9 rfl rfl)
theorem dX50_gatherAmount_35 : decode cX50_gatherAmount 35 = .ok (.iload 11, 2) := dk_21 11 (dk_at dksX50_gatherAmount_1 11 rfl rfl)
theorem dX50_gatherAmount_37 : decode cX50_gatherAmount 37 = .ok (.bipush 9, 2) := dk_16 9 (dk_at dksX50_gatherAmount_1 13 rfl rfl)
theorem dX50_gatherAmount_39 : decode cX50_gatherAmount 39 = .ok (.if_icmp .ge 49, 3) := dk_162 0 49 (dk_at dksX50_gatherAmount_1 15 rfl rfl)
theorem dX50_gatherAmount_42 : decode cX50_gatherAmount 42 = .ok (.lload 9, 2) := dk_22 9 (dk_at dksX50_gatherAmount_1 18 rfl rfl)
theorem dX50_gatherAmount_44 : decode cX50_gatherAmount 44 = .ok (.aload_n 0, 1) := dk_42 (dk_at dksX50_gatherAmount_1 20 rfl rfl)
theorem dX50_gatherAmount_45 : decode cX50_gatherAmount 45 = .ok (.getfield 72, 3) := dk_180 0 72 (dk_at dksX50_gatherAmount_1 21 rfl rfl)
theorem dX50_gatherAmount_48 : decode cX50_gatherAmount 48 = .ok (.bipush 81, 2) := dk_16 81 (dk_at dksX50_gatherAmount_2 0 rfl rfl)
theorem dX50_gatherAmount_50 : decode cX50_gatherAmount 50 = .ok (.iload_n 3, 1) := dk_29 (dk_at dksX50_gatherAmount_2 2 rfl rfl)
theorem dX50_gatherAmount_51 : decode cX50_gatherAmount 51 = .ok (.imul, 1) := dk_104 (dk_at dksX50_gatherAmount_2 3 rfl rfl)
theorem dX50_gatherAmount_52 : decode cX50_gatherAmount 52 = .ok (.bipush 9, 2) := dk_16 9 (dk_at dksX50_gatherAmount_2 4 rfl rfl)
theorem dX50_gatherAmount_54 : decode cX50_gatherAmount 54 = .ok (.iload 8, 2) := dk_21 8 (dk_at dksX50_gatherAmount_2 6 rfl rfl)
theorem dX50_gatherAmount_56 : decode cX50_gatherAmount 56 = .ok (.imul, 1) := dk_104 (dk_at dksX50_gatherAmount_2 8 rfl rfl)
theorem dX50_gatherAmount_57 : decode cX50_gatherAmount 57 = .ok (.iadd, 1) := dk_96 (dk_at dksX50_gatherAmount_2 9 rfl rfl)
theorem dX50_gatherAmount_58 : decode cX50_gatherAmount 58 = .ok (.iload 11, 2) := dk_21 11 (dk_at dksX50_gatherAmount_2 10 rfl rfl)
theorem dX50_gatherAmount_60 : decode cX50_gatherAmount 60 = .ok (.iadd, 1) := dk_96 (dk_at dksX50_gatherAmount_2 12 rfl rfl)
theorem dX50_gatherAmount_61 : decode cX50_gatherAmount 61 = .ok (.laload, 1) := dk_47 (dk_at dksX50_gatherAmount_2 13 rfl rfl)
theorem dX50_gatherAmount_62 : decode cX50_gatherAmount 62 = .ok (.aload_n 0, 1) := dk_42 (dk_at dksX50_gatherAmount_2 14 rfl rfl)
theorem dX50_gatherAmount_63 : decode cX50_gatherAmount 63 = .ok (.getfield 37, 3) := dk_180 0 37 (dk_at dksX50_gatherAmount_2 15 rfl rfl)
theorem dX50_gatherAmount_66 : decode cX50_gatherAmount 66 = .ok (.bipush 9, 2) := dk_16 9 (dk_at dksX50_gatherAmount_2 18 rfl rfl)
theorem dX50_gatherAmount_68 : decode cX50_gatherAmount 68 = .ok (.iload_n 1, 1) := dk_27 (dk_at dksX50_gatherAmount_2 20 rfl rfl)
theorem dX50_gatherAmount_69 : decode cX50_gatherAmount 69 = .ok (.imul, 1) := dk_104 (dk_at dksX50_gatherAmount_2 21 rfl rfl)
theorem dX50_gatherAmount_70 : decode cX50_gatherAmount 70 = .ok (.iload 11, 2) := dk_21 11 (dk_at dksX50_gatherAmount_2 22 rfl rfl)
theorem dX50_gatherAmount_72 : decode cX50_gatherAmount 72 = .ok (.iadd, 1) := dk_96 (dk_at dksX50_gatherAmount_3 0 rfl rfl)
theorem dX50_gatherAmount_73 : decode cX50_gatherAmount 73 = .ok (.iaload, 1) := dk_46 (dk_at dksX50_gatherAmount_3 1 rfl rfl)
theorem dX50_gatherAmount_74 : decode cX50_gatherAmount 74 = .ok (.i2l, 1) := dk_133 (dk_at dksX50_gatherAmount_3 2 rfl rfl)
theorem dX50_gatherAmount_75 : decode cX50_gatherAmount 75 = .ok (.lmul, 1) := dk_105 (dk_at dksX50_gatherAmount_3 3 rfl rfl)
theorem dX50_gatherAmount_76 : decode cX50_gatherAmount 76 = .ok (.ladd, 1) := dk_97 (dk_at dksX50_gatherAmount_3 4 rfl rfl)
theorem dX50_gatherAmount_77 : decode cX50_gatherAmount 77 = .ok (.lload 4, 2) := dk_22 4 (dk_at dksX50_gatherAmount_3 5 rfl rfl)
theorem dX50_gatherAmount_79 : decode cX50_gatherAmount 79 = .ok (.lrem, 1) := dk_113 (dk_at dksX50_gatherAmount_3 7 rfl rfl)
theorem dX50_gatherAmount_80 : decode cX50_gatherAmount 80 = .ok (.lstore 9, 2) := dk_55 9 (dk_at dksX50_gatherAmount_3 8 rfl rfl)
theorem dX50_gatherAmount_82 : decode cX50_gatherAmount 82 = .ok (.iinc 11 1, 3) := dk_132 11 1 (dk_at dksX50_gatherAmount_3 10 rfl rfl)
theorem dX50_gatherAmount_85 : decode cX50_gatherAmount 85 = .ok (.goto (-50), 3) := dk_167 255 206 (dk_at dksX50_gatherAmount_3 13 rfl rfl)
theorem dX50_gatherAmount_88 : decode cX50_gatherAmount 88 = .ok (.lload 6, 2) := dk_22 6 (dk_at dksX50_gatherAmount_3 16 rfl rfl)
theorem dX50_gatherAmount_90 : decode cX50_gatherAmount 90 = .ok (.lload 9, 2) := dk_22 9 (dk_at dksX50_gatherAmount_3 18 rfl rfl)
theorem dX50_gatherAmount_92 : decode cX50_gatherAmount 92 = .ok (.aload_n 0, 1) := dk_42 (dk_at dksX50_gatherAmount_3 20 rfl rfl)
theorem dX50_gatherAmount_93 : decode cX50_gatherAmount 93 = .ok (.getfield 87, 3) := dk_180 0 87 (dk_at dksX50_gatherAmount_3 21 rfl rfl)
theorem dX50_gatherAmount_96 : decode cX50_gatherAmount 96 = .ok (.iload 8, 2) := dk_21 8 (dk_at dksX50_gatherAmount_4 0 rfl rfl)
theorem dX50_gatherAmount_98 : decode cX50_gatherAmount 98 = .ok (.laload, 1) := dk_47 (dk_at dksX50_gatherAmount_4 2 rfl rfl)
theorem dX50_gatherAmount_99 : decode cX50_gatherAmount 99 = .ok (.lload 4, 2) := dk_22 4 (dk_at dksX50_gatherAmount_4 3 rfl rfl)
theorem dX50_gatherAmount_101 : decode cX50_gatherAmount 101 = .ok (.lrem, 1) := dk_113 (dk_at dksX50_gatherAmount_4 5 rfl rfl)
theorem dX50_gatherAmount_102 : decode cX50_gatherAmount 102 = .ok (.lmul, 1) := dk_105 (dk_at dksX50_gatherAmount_4 6 rfl rfl)
theorem dX50_gatherAmount_103 : decode cX50_gatherAmount 103 = .ok (.ladd, 1) := dk_97 (dk_at dksX50_gatherAmount_4 7 rfl rfl)
theorem dX50_gatherAmount_104 : decode cX50_gatherAmount 104 = .ok (.lload 4, 2) := dk_22 4 (dk_at dksX50_gatherAmount_4 8 rfl rfl)
theorem dX50_gatherAmount_106 : decode cX50_gatherAmount 106 = .ok (.lrem, 1) := dk_113 (dk_at dksX50_gatherAmount_4 10 rfl rfl)
theorem dX50_gatherAmount_107 : decode cX50_gatherAmount 107 = .ok (.lstore 6, 2) := dk_55 6 (dk_at dksX50_gatherAmount_4 11 rfl rfl)
theorem dX50_gatherAmount_109 : decode cX50_gatherAmount 109 = .ok (.iinc 8 1, 3) := dk_132 8 1 (dk_at dksX50_gatherAmount_4 13 rfl rfl)
theorem dX50_gatherAmount_112 : decode cX50_gatherAmount 112 = .ok (.goto (-90), 3) := dk_167 255 166 (dk_at dksX50_gatherAmount_4 16 rfl rfl)
theorem dX50_gatherAmount_115 : decode cX50_gatherAmount 115 = .ok (.aload_n 0, 1) := dk_42 (dk_at dksX50_gatherAmount_4 19 rfl rfl)
theorem dX50_gatherAmount_116 : decode cX50_gatherAmount 116 = .ok (.getfield 81, 3) := dk_180 0 81 (dk_at dksX50_gatherAmount_4 20 rfl rfl)
theorem dX50_gatherAmount_119 : decode cX50_gatherAmount 119 = .ok (.iload_n 3, 1) := dk_29 (dk_at dksX50_gatherAmount_4 23 rfl rfl)
theorem dX50_gatherAmount_120 : decode cX50_gatherAmount 120 = .ok (.lload 6, 2) := dk_22 6 (dk_at dksX50_gatherAmount_5 0 rfl rfl)
theorem dX50_gatherAmount_122 : decode cX50_gatherAmount 122 = .ok (.lastore, 1) := dk_80 (dk_at dksX50_gatherAmount_5 2 rfl rfl)
theorem dX50_gatherAmount_123 : decode cX50_gatherAmount 123 = .ok (.iinc 3 1, 3) := dk_132 3 1 (dk_at dksX50_gatherAmount_5 3 rfl rfl)
theorem dX50_gatherAmount_126 : decode cX50_gatherAmount 126 = .ok (.goto (-124), 3) := dk_167 255 132 (dk_at dksX50_gatherAmount_5 6 rfl rfl)
theorem dX50_gatherAmount_129 : decode cX50_gatherAmount 129 = .ok (.aload_n 0, 1) := dk_42 (dk_at dksX50_gatherAmount_5 9 rfl rfl)
theorem dX50_gatherAmount_130 : decode cX50_gatherAmount 130 = .ok (.iload_n 2, 1) := dk_28 (dk_at dksX50_gatherAmount_5 10 rfl rfl)
theorem dX50_gatherAmount_131 : decode cX50_gatherAmount 131 = .ok (.invokevirtual 239, 3) := dk_182 0 239 (dk_at dksX50_gatherAmount_5 11 rfl rfl)
theorem dX50_gatherAmount_134 : decode cX50_gatherAmount 134 = .ok (.return_, 1) := dk_177 (dk_at dksX50_gatherAmount_5 14 rfl rfl)
abbrev cX50_partOf : ByteArray := prog_64_method_44_code
def yX50_partOf : MethodName := ⟨RX50, "partOf", "(IZ)J"⟩
def dkwX50_partOf_4 : List UInt8 := [182, 0, 225, 66, 132, 5, 1, 167, 255, 226, 33, 173]
abbrev dktX50_partOf_4 : List UInt8 := dkwX50_partOf_4 ++ []
def dkwX50_partOf_3 : List UInt8 := [21, 5, 27, 162, 0, 30, 42, 5, 3, 182, 0, 232, 42, 3, 20, 0, 150, 9, 182, 0, 196, 42, 3]
abbrev dktX50_partOf_3 : List UInt8 := dkwX50_partOf_3 ++ dktX50_partOf_4
def dkwX50_partOf_2 : List UInt8 := [154, 0, 21, 42, 4, 3, 182, 0, 232, 42, 3, 5, 182, 0, 236, 42, 3, 5, 182, 0, 232, 3, 54, 5]
abbrev dktX50_partOf_2 : List UInt8 := dkwX50_partOf_2 ++ dktX50_partOf_3
def dkwX50_partOf_1 : List UInt8 := [42, 5, 182, 0, 229, 54, 5, 21, 5, 153, 0, 8, 33, 117, 167, 0, 7, 33, 117, 10, 101, 66, 21, 5]
abbrev dktX50_partOf_1 : List UInt8 := dkwX50_partOf_1 ++ dktX50_partOf_2
def dkwX50_partOf_0 : List UInt8 := [27, 155, 0, 9, 27, 16, 6, 164, 0, 7, 20, 0, 223, 173, 42, 3, 182, 0, 225, 66, 28, 153, 0, 48]
abbrev dktX50_partOf_0 : List UInt8 := dkwX50_partOf_0 ++ dktX50_partOf_1
theorem dksX50_partOf_0 : cX50_partOf.data.toList.drop 0 = dktX50_partOf_0 := by decide +kernel
theorem dksX50_partOf_1 : cX50_partOf.data.toList.drop 24 = dktX50_partOf_1 := dk_seg dksX50_partOf_0 24 rfl rfl
theorem dksX50_partOf_2 : cX50_partOf.data.toList.drop 48 = dktX50_partOf_2 := dk_seg dksX50_partOf_1 24 rfl rfl
theorem dksX50_partOf_3 : cX50_partOf.data.toList.drop 72 = dktX50_partOf_3 := dk_seg dksX50_partOf_2 24 rfl rfl
theorem dksX50_partOf_4 : cX50_partOf.data.toList.drop 95 = dktX50_partOf_4 := dk_seg dksX50_partOf_3 23 rfl rfl
theorem dX50_partOf_0 : decode cX50_partOf 0 = .ok (.iload_n 1, 1) := dk_27 (dk_at dksX50_partOf_0 0 rfl rfl)
theorem dX50_partOf_1 : decode cX50_partOf 1 = .ok (.ifCond .lt 9, 3) := dk_155 0 9 (dk_at dksX50_partOf_0 1 rfl rfl)
theorem dX50_partOf_4 : decode cX50_partOf 4 = .ok (.iload_n 1, 1) := dk_27 (dk_at dksX50_partOf_0 4 rfl rfl)
theorem dX50_partOf_5 : decode cX50_partOf 5 = .ok (.bipush 6, 2) := dk_16 6 (dk_at dksX50_partOf_0 5 rfl rfl)
theorem dX50_partOf_7 : decode cX50_partOf 7 = .ok (.if_icmp .le 7, 3) := dk_164 0 7 (dk_at dksX50_partOf_0 7 rfl rfl)
theorem dX50_partOf_10 : decode cX50_partOf 10 = .ok (.ldc2_w 223, 3) := dk_20 0 223 (dk_at dksX50_partOf_0 10 rfl rfl)
theorem dX50_partOf_13 : decode cX50_partOf 13 = .ok (.lreturn, 1) := dk_173 (dk_at dksX50_partOf_0 13 rfl rfl)
theorem dX50_partOf_14 : decode cX50_partOf 14 = .ok (.aload_n 0, 1) := dk_42 (dk_at dksX50_partOf_0 14 rfl rfl)
theorem dX50_partOf_15 : decode cX50_partOf 15 = .ok (.iconst 0, 1) := dk_3 (dk_at dksX50_partOf_0 15 rfl rfl)
theorem dX50_partOf_16 : decode cX50_partOf 16 = .ok (.invokevirtual 225, 3) := dk_182 0 225 (dk_at dksX50_partOf_0 16 rfl rfl)
theorem dX50_partOf_19 : decode cX50_partOf 19 = .ok (.lstore_n 3, 1) := dk_66 (dk_at dksX50_partOf_0 19 rfl rfl)
theorem dX50_partOf_20 : decode cX50_partOf 20 = .ok (.iload_n 2, 1) := dk_28 (dk_at dksX50_partOf_0 20 rfl rfl)
theorem dX50_partOf_21 : decode cX50_partOf 21 = .ok (.ifCond .eq 48, 3) := dk_153 0 48 (dk_at dksX50_partOf_0 21 rfl rfl)
theorem dX50_partOf_24 : decode cX50_partOf 24 = .ok (.aload_n 0, 1) := dk_42 (dk_at dksX50_partOf_1 0 rfl rfl)
theorem dX50_partOf_25 : decode cX50_partOf 25 = .ok (.iconst 2, 1) := dk_5 (dk_at dksX50_partOf_1 1 rfl rfl)
theorem dX50_partOf_26 : decode cX50_partOf 26 = .ok (.invokevirtual 229, 3) := dk_182 0 229 (dk_at dksX50_partOf_1 2 rfl rfl)
theorem dX50_partOf_29 : decode cX50_partOf 29 = .ok (.istore 5, 2) := dk_54 5 (dk_at dksX50_partOf_1 5 rfl rfl)
theorem dX50_partOf_31 : decode cX50_partOf 31 = .ok (.iload 5, 2) := dk_21 5 (dk_at dksX50_partOf_1 7 rfl rfl)
theorem dX50_partOf_33 : decode cX50_partOf 33 = .ok (.ifCond .eq 8, 3) := dk_153 0 8 (dk_at dksX50_partOf_1 9 rfl rfl)
theorem dX50_partOf_36 : decode cX50_partOf 36 = .ok (.lload_n 3, 1) := dk_33 (dk_at dksX50_partOf_1 12 rfl rfl)
theorem dX50_partOf_37 : decode cX50_partOf 37 = .ok (.lneg, 1) := dk_117 (dk_at dksX50_partOf_1 13 rfl rfl)
theorem dX50_partOf_38 : decode cX50_partOf 38 = .ok (.goto 7, 3) := dk_167 0 7 (dk_at dksX50_partOf_1 14 rfl rfl)
theorem dX50_partOf_41 : decode cX50_partOf 41 = .ok (.lload_n 3, 1) := dk_33 (dk_at dksX50_partOf_1 17 rfl rfl)
theorem dX50_partOf_42 : decode cX50_partOf 42 = .ok (.lneg, 1) := dk_117 (dk_at dksX50_partOf_1 18 rfl rfl)
theorem dX50_partOf_43 : decode cX50_partOf 43 = .ok (.lconst 1, 1) := dk_10 (dk_at dksX50_partOf_1 19 rfl rfl)
theorem dX50_partOf_44 : decode cX50_partOf 44 = .ok (.lsub, 1) := dk_101 (dk_at dksX50_partOf_1 20 rfl rfl)
theorem dX50_partOf_45 : decode cX50_partOf 45 = .ok (.lstore_n 3, 1) := dk_66 (dk_at dksX50_partOf_1 21 rfl rfl)
theorem dX50_partOf_46 : decode cX50_partOf 46 = .ok (.iload 5, 2) := dk_21 5 (dk_at dksX50_partOf_1 22 rfl rfl)
theorem dX50_partOf_48 : decode cX50_partOf 48 = .ok (.ifCond .ne 21, 3) := dk_154 0 21 (dk_at dksX50_partOf_2 0 rfl rfl)
theorem dX50_partOf_51 : decode cX50_partOf 51 = .ok (.aload_n 0, 1) := dk_42 (dk_at dksX50_partOf_2 3 rfl rfl)
theorem dX50_partOf_52 : decode cX50_partOf 52 = .ok (.iconst 1, 1) := dk_4 (dk_at dksX50_partOf_2 4 rfl rfl)
theorem dX50_partOf_53 : decode cX50_partOf 53 = .ok (.iconst 0, 1) := dk_3 (dk_at dksX50_partOf_2 5 rfl rfl)
theorem dX50_partOf_54 : decode cX50_partOf 54 = .ok (.invokevirtual 232, 3) := dk_182 0 232 (dk_at dksX50_partOf_2 6 rfl rfl)
theorem dX50_partOf_57 : decode cX50_partOf 57 = .ok (.aload_n 0, 1) := dk_42 (dk_at dksX50_partOf_2 9 rfl rfl)
theorem dX50_partOf_58 : decode cX50_partOf 58 = .ok (.iconst 0, 1) := dk_3 (dk_at dksX50_partOf_2 10 rfl rfl)
theorem dX50_partOf_59 : decode cX50_partOf 59 = .ok (.iconst 2, 1) := dk_5 (dk_at dksX50_partOf_2 11 rfl rfl)
theorem dX50_partOf_60 : decode cX50_partOf 60 = .ok (.invokevirtual 236, 3) := dk_182 0 236 (dk_at dksX50_partOf_2 12 rfl rfl)
theorem dX50_partOf_63 : decode cX50_partOf 63 = .ok (.aload_n 0, 1) := dk_42 (dk_at dksX50_partOf_2 15 rfl rfl)
theorem dX50_partOf_64 : decode cX50_partOf 64 = .ok (.iconst 0, 1) := dk_3 (dk_at dksX50_partOf_2 16 rfl rfl)
theorem dX50_partOf_65 : decode cX50_partOf 65 = .ok (.iconst 2, 1) := dk_5 (dk_at dksX50_partOf_2 17 rfl rfl)
theorem dX50_partOf_66 : decode cX50_partOf 66 = .ok (.invokevirtual 232, 3) := dk_182 0 232 (dk_at dksX50_partOf_2 18 rfl rfl)
theorem dX50_partOf_69 : decode cX50_partOf 69 = .ok (.iconst 0, 1) := dk_3 (dk_at dksX50_partOf_2 21 rfl rfl)
theorem dX50_partOf_70 : decode cX50_partOf 70 = .ok (.istore 5, 2) := dk_54 5 (dk_at dksX50_partOf_2 22 rfl rfl)
theorem dX50_partOf_72 : decode cX50_partOf 72 = .ok (.iload 5, 2) := dk_21 5 (dk_at dksX50_partOf_3 0 rfl rfl)
theorem dX50_partOf_74 : decode cX50_partOf 74 = .ok (.iload_n 1, 1) := dk_27 (dk_at dksX50_partOf_3 2 rfl rfl)
theorem dX50_partOf_75 : decode cX50_partOf 75 = .ok (.if_icmp .ge 30, 3) := dk_162 0 30 (dk_at dksX50_partOf_3 3 rfl rfl)
theorem dX50_partOf_78 : decode cX50_partOf 78 = .ok (.aload_n 0, 1) := dk_42 (dk_at dksX50_partOf_3 6 rfl rfl)
theorem dX50_partOf_79 : decode cX50_partOf 79 = .ok (.iconst 2, 1) := dk_5 (dk_at dksX50_partOf_3 7 rfl rfl)
theorem dX50_partOf_80 : decode cX50_partOf 80 = .ok (.iconst 0, 1) := dk_3 (dk_at dksX50_partOf_3 8 rfl rfl)
theorem dX50_partOf_81 : decode cX50_partOf 81 = .ok (.invokevirtual 232, 3) := dk_182 0 232 (dk_at dksX50_partOf_3 9 rfl rfl)
theorem dX50_partOf_84 : decode cX50_partOf 84 = .ok (.aload_n 0, 1) := dk_42 (dk_at dksX50_partOf_3 12 rfl rfl)
theorem dX50_partOf_85 : decode cX50_partOf 85 = .ok (.iconst 0, 1) := dk_3 (dk_at dksX50_partOf_3 13 rfl rfl)
theorem dX50_partOf_86 : decode cX50_partOf 86 = .ok (.ldc2_w 150, 3) := dk_20 0 150 (dk_at dksX50_partOf_3 14 rfl rfl)
theorem dX50_partOf_89 : decode cX50_partOf 89 = .ok (.lconst 0, 1) := dk_9 (dk_at dksX50_partOf_3 17 rfl rfl)
theorem dX50_partOf_90 : decode cX50_partOf 90 = .ok (.invokevirtual 196, 3) := dk_182 0 196 (dk_at dksX50_partOf_3 18 rfl rfl)
theorem dX50_partOf_93 : decode cX50_partOf 93 = .ok (.aload_n 0, 1) := dk_42 (dk_at dksX50_partOf_3 21 rfl rfl)
theorem dX50_partOf_94 : decode cX50_partOf 94 = .ok (.iconst 0, 1) := dk_3 (dk_at dksX50_partOf_3 22 rfl rfl)
theorem dX50_partOf_95 : decode cX50_partOf 95 = .ok (.invokevirtual 225, 3) := dk_182 0 225 (dk_at dksX50_partOf_4 0 rfl rfl)
theorem dX50_partOf_98 : decode cX50_partOf 98 = .ok (.lstore_n 3, 1) := dk_66 (dk_at dksX50_partOf_4 3 rfl rfl)
theorem dX50_partOf_99 : decode cX50_partOf 99 = .ok (.iinc 5 1, 3) := dk_132 5 1 (dk_at dksX50_partOf_4 4 rfl rfl)
theorem dX50_partOf_102 : decode cX50_partOf 102 = .ok (.goto (-30), 3) := dk_167 255 226 (dk_at dksX50_partOf_4 7 rfl rfl)
theorem dX50_partOf_105 : decode cX50_partOf 105 = .ok (.lload_n 3, 1) := dk_33 (dk_at dksX50_partOf_4 10 rfl rfl)
theorem dX50_partOf_106 : decode cX50_partOf 106 = .ok (.lreturn, 1) := dk_173 (dk_at dksX50_partOf_4 11 rfl rfl)
abbrev cX50_divide : ByteArray := prog_64_method_43_code
def yX50_divide : MethodName := ⟨RX50, "divide", "(I)J"⟩
def dkwX50_divide_5 : List UInt8 := [173]
abbrev dktX50_divide_5 : List UInt8 := dkwX50_divide_5 ++ []
def dkwX50_divide_4 : List UInt8 := [105, 65, 42, 182, 0, 216, 154, 0, 11, 42, 182, 0, 220, 32, 10, 97, 65, 132, 4, 255, 167, 255, 175, 32]
abbrev dktX50_divide_4 : List UInt8 := dkwX50_divide_4 ++ dktX50_divide_5
def dkwX50_divide_3 : List UInt8 := [154, 0, 12, 32, 16, 61, 123, 9, 148, 153, 0, 7, 4, 167, 0, 4, 3, 181, 0, 206, 20, 0, 172, 32]
abbrev dktX50_divide_3 : List UInt8 := dkwX50_divide_3 ++ dktX50_divide_4
def dkwX50_divide_2 : List UInt8 := [104, 21, 4, 16, 28, 108, 96, 47, 21, 4, 16, 28, 112, 123, 10, 127, 182, 0, 213, 42, 42, 180, 0, 206]
abbrev dktX50_divide_2 : List UInt8 := dkwX50_divide_2 ++ dktX50_divide_3
def dkwX50_divide_1 : List UInt8 := [27, 182, 0, 209, 16, 28, 104, 4, 100, 54, 4, 21, 4, 155, 0, 82, 42, 42, 180, 0, 78, 16, 24, 27]
abbrev dktX50_divide_1 : List UInt8 := dkwX50_divide_1 ++ dktX50_divide_2
def dkwX50_divide_0 : List UInt8 := [42, 3, 181, 0, 206, 42, 5, 182, 0, 192, 42, 42, 4, 182, 0, 209, 4, 96, 181, 0, 203, 9, 65, 42]
abbrev dktX50_divide_0 : List UInt8 := dkwX50_divide_0 ++ dktX50_divide_1
theorem dksX50_divide_0 : cX50_divide.data.toList.drop 0 = dktX50_divide_0 := by decide +kernel
theorem dksX50_divide_1 : cX50_divide.data.toList.drop 24 = dktX50_divide_1 := dk_seg dksX50_divide_0 24 rfl rfl
theorem dksX50_divide_2 : cX50_divide.data.toList.drop 48 = dktX50_divide_2 := dk_seg dksX50_divide_1 24 rfl rfl
theorem dksX50_divide_3 : cX50_divide.data.toList.drop 72 = dktX50_divide_3 := dk_seg dksX50_divide_2 24 rfl rfl
theorem dksX50_divide_4 : cX50_divide.data.toList.drop 96 = dktX50_divide_4 := dk_seg dksX50_divide_3 24 rfl rfl
theorem dksX50_divide_5 : cX50_divide.data.toList.drop 120 = dktX50_divide_5 := dk_seg dksX50_divide_4 24 rfl rfl
theorem dX50_divide_0 : decode cX50_divide 0 = .ok (.aload_n 0, 1) := dk_42 (dk_at dksX50_divide_0 0 rfl rfl)
theorem dX50_divide_1 : decode cX50_divide 1 = .ok (.iconst 0, 1) := dk_3 (dk_at dksX50_divide_0 1 rfl rfl)
theorem dX50_divide_2 : decode cX50_divide 2 = .ok (.putfield 206, 3) := dk_181 0 206 (dk_at dksX50_divide_0 2 rfl rfl)
theorem dX50_divide_5 : decode cX50_divide 5 = .ok (.aload_n 0, 1) := dk_42 (dk_at dksX50_divide_0 5 rfl rfl)
theorem dX50_divide_6 : decode cX50_divide 6 = .ok (.iconst 2, 1) := dk_5 (dk_at dksX50_divide_0 6 rfl rfl)
theorem dX50_divide_7 : decode cX50_divide 7 = .ok (.invokevirtual 192, 3) := dk_182 0 192 (dk_at dksX50_divide_0 7 rfl rfl)
theorem dX50_divide_10 : decode cX50_divide 10 = .ok (.aload_n 0, 1) := dk_42 (dk_at dksX50_divide_0 10 rfl rfl)
theorem dX50_divide_11 : decode cX50_divide 11 = .ok (.aload_n 0, 1) := dk_42 (dk_at dksX50_divide_0 11 rfl rfl)
theorem dX50_divide_12 : decode cX50_divide 12 = .ok (.iconst 1, 1) := dk_4 (dk_at dksX50_divide_0 12 rfl rfl)
theorem dX50_divide_13 : decode cX50_divide 13 = .ok (.invokevirtual 209, 3) := dk_182 0 209 (dk_at dksX50_divide_0 13 rfl rfl)
theorem dX50_divide_16 : decode cX50_divide 16 = .ok (.iconst 1, 1) := dk_4 (dk_at dksX50_divide_0 16 rfl rfl)
theorem dX50_divide_17 : decode cX50_divide 17 = .ok (.iadd, 1) := dk_96 (dk_at dksX50_divide_0 17 rfl rfl)
theorem dX50_divide_18 : decode cX50_divide 18 = .ok (.putfield 203, 3) := dk_181 0 203 (dk_at dksX50_divide_0 18 rfl rfl)
theorem dX50_divide_21 : decode cX50_divide 21 = .ok (.lconst 0, 1) := dk_9 (dk_at dksX50_divide_0 21 rfl rfl)
theorem dX50_divide_22 : decode cX50_divide 22 = .ok (.lstore_n 2, 1) := dk_65 (dk_at dksX50_divide_0 22 rfl rfl)
theorem dX50_divide_23 : decode cX50_divide 23 = .ok (.aload_n 0, 1) := dk_42 (dk_at dksX50_divide_0 23 rfl rfl)
theorem dX50_divide_24 : decode cX50_divide 24 = .ok (.iload_n 1, 1) := dk_27 (dk_at dksX50_divide_1 0 rfl rfl)
theorem dX50_divide_25 : decode cX50_divide 25 = .ok (.invokevirtual 209, 3) := dk_182 0 209 (dk_at dksX50_divide_1 1 rfl rfl)
theorem dX50_divide_28 : decode cX50_divide 28 = .ok (.bipush 28, 2) := dk_16 28 (dk_at dksX50_divide_1 4 rfl rfl)
theorem dX50_divide_30 : decode cX50_divide 30 = .ok (.imul, 1) := dk_104 (dk_at dksX50_divide_1 6 rfl rfl)
theorem dX50_divide_31 : decode cX50_divide 31 = .ok (.iconst 1, 1) := dk_4 (dk_at dksX50_divide_1 7 rfl rfl)
theorem dX50_divide_32 : decode cX50_divide 32 = .ok (.isub, 1) := dk_100 (dk_at dksX50_divide_1 8 rfl rfl)
theorem dX50_divide_33 : decode cX50_divide 33 = .ok (.istore 4, 2) := dk_54 4 (dk_at dksX50_divide_1 9 rfl rfl)
theorem dX50_divide_35 : decode cX50_divide 35 = .ok (.iload 4, 2) := dk_21 4 (dk_at dksX50_divide_1 11 rfl rfl)
theorem dX50_divide_37 : decode cX50_divide 37 = .ok (.ifCond .lt 82, 3) := dk_155 0 82 (dk_at dksX50_divide_1 13 rfl rfl)
theorem dX50_divide_40 : decode cX50_divide 40 = .ok (.aload_n 0, 1) := dk_42 (dk_at dksX50_divide_1 16 rfl rfl)
theorem dX50_divide_41 : decode cX50_divide 41 = .ok (.aload_n 0, 1) := dk_42 (dk_at dksX50_divide_1 17 rfl rfl)
theorem dX50_divide_42 : decode cX50_divide 42 = .ok (.getfield 78, 3) := dk_180 0 78 (dk_at dksX50_divide_1 18 rfl rfl)
theorem dX50_divide_45 : decode cX50_divide 45 = .ok (.bipush 24, 2) := dk_16 24 (dk_at dksX50_divide_1 21 rfl rfl)
theorem dX50_divide_47 : decode cX50_divide 47 = .ok (.iload_n 1, 1) := dk_27 (dk_at dksX50_divide_1 23 rfl rfl)
theorem dX50_divide_48 : decode cX50_divide 48 = .ok (.imul, 1) := dk_104 (dk_at dksX50_divide_2 0 rfl rfl)
theorem dX50_divide_49 : decode cX50_divide 49 = .ok (.iload 4, 2) := dk_21 4 (dk_at dksX50_divide_2 1 rfl rfl)
theorem dX50_divide_51 : decode cX50_divide 51 = .ok (.bipush 28, 2) := dk_16 28 (dk_at dksX50_divide_2 3 rfl rfl)
theorem dX50_divide_53 : decode cX50_divide 53 = .ok (.idiv, 1) := dk_108 (dk_at dksX50_divide_2 5 rfl rfl)
theorem dX50_divide_54 : decode cX50_divide 54 = .ok (.iadd, 1) := dk_96 (dk_at dksX50_divide_2 6 rfl rfl)
theorem dX50_divide_55 : decode cX50_divide 55 = .ok (.laload, 1) := dk_47 (dk_at dksX50_divide_2 7 rfl rfl)
theorem dX50_divide_56 : decode cX50_divide 56 = .ok (.iload 4, 2) := dk_21 4 (dk_at dksX50_divide_2 8 rfl rfl)
theorem dX50_divide_58 : decode cX50_divide 58 = .ok (.bipush 28, 2) := dk_16 28 (dk_at dksX50_divide_2 10 rfl rfl)
theorem dX50_divide_60 : decode cX50_divide 60 = .ok (.irem, 1) := dk_112 (dk_at dksX50_divide_2 12 rfl rfl)
theorem dX50_divide_61 : decode cX50_divide 61 = .ok (.lshr, 1) := dk_123 (dk_at dksX50_divide_2 13 rfl rfl)
theorem dX50_divide_62 : decode cX50_divide 62 = .ok (.lconst 1, 1) := dk_10 (dk_at dksX50_divide_2 14 rfl rfl)
theorem dX50_divide_63 : decode cX50_divide 63 = .ok (.land, 1) := dk_127 (dk_at dksX50_divide_2 15 rfl rfl)
theorem dX50_divide_64 : decode cX50_divide 64 = .ok (.invokevirtual 213, 3) := dk_182 0 213 (dk_at dksX50_divide_2 16 rfl rfl)
theorem dX50_divide_67 : decode cX50_divide 67 = .ok (.aload_n 0, 1) := dk_42 (dk_at dksX50_divide_2 19 rfl rfl)
theorem dX50_divide_68 : decode cX50_divide 68 = .ok (.aload_n 0, 1) := dk_42 (dk_at dksX50_divide_2 20 rfl rfl)
theorem dX50_divide_69 : decode cX50_divide 69 = .ok (.getfield 206, 3) := dk_180 0 206 (dk_at dksX50_divide_2 21 rfl rfl)
theorem dX50_divide_72 : decode cX50_divide 72 = .ok (.ifCond .ne 12, 3) := dk_154 0 12 (dk_at dksX50_divide_3 0 rfl rfl)
theorem dX50_divide_75 : decode cX50_divide 75 = .ok (.lload_n 2, 1) := dk_32 (dk_at dksX50_divide_3 3 rfl rfl)
theorem dX50_divide_76 : decode cX50_divide 76 = .ok (.bipush 61, 2) := dk_16 61 (dk_at dksX50_divide_3 4 rfl rfl)
theorem dX50_divide_78 : decode cX50_divide 78 = .ok (.lshr, 1) := dk_123 (dk_at dksX50_divide_3 6 rfl rfl)
theorem dX50_divide_79 : decode cX50_divide 79 = .ok (.lconst 0, 1) := dk_9 (dk_at dksX50_divide_3 7 rfl rfl)
theorem dX50_divide_80 : decode cX50_divide 80 = .ok (.lcmp, 1) := dk_148 (dk_at dksX50_divide_3 8 rfl rfl)
theorem dX50_divide_81 : decode cX50_divide 81 = .ok (.ifCond .eq 7, 3) := dk_153 0 7 (dk_at dksX50_divide_3 9 rfl rfl)
theorem dX50_divide_84 : decode cX50_divide 84 = .ok (.iconst 1, 1) := dk_4 (dk_at dksX50_divide_3 12 rfl rfl)
theorem dX50_divide_85 : decode cX50_divide 85 = .ok (.goto 4, 3) := dk_167 0 4 (dk_at dksX50_divide_3 13 rfl rfl)
theorem dX50_divide_88 : decode cX50_divide 88 = .ok (.iconst 0, 1) := dk_3 (dk_at dksX50_divide_3 16 rfl rfl)
theorem dX50_divide_89 : decode cX50_divide 89 = .ok (.putfield 206, 3) := dk_181 0 206 (dk_at dksX50_divide_3 17 rfl rfl)
theorem dX50_divide_92 : decode cX50_divide 92 = .ok (.ldc2_w 172, 3) := dk_20 0 172 (dk_at dksX50_divide_3 20 rfl rfl)
theorem dX50_divide_95 : decode cX50_divide 95 = .ok (.lload_n 2, 1) := dk_32 (dk_at dksX50_divide_3 23 rfl rfl)
theorem dX50_divide_96 : decode cX50_divide 96 = .ok (.lmul, 1) := dk_105 (dk_at dksX50_divide_4 0 rfl rfl)
theorem dX50_divide_97 : decode cX50_divide 97 = .ok (.lstore_n 2, 1) := dk_65 (dk_at dksX50_divide_4 1 rfl rfl)
theorem dX50_divide_98 : decode cX50_divide 98 = .ok (.aload_n 0, 1) := dk_42 (dk_at dksX50_divide_4 2 rfl rfl)
theorem dX50_divide_99 : decode cX50_divide 99 = .ok (.invokevirtual 216, 3) := dk_182 0 216 (dk_at dksX50_divide_4 3 rfl rfl)
theorem dX50_divide_102 : decode cX50_divide 102 = .ok (.ifCond .ne 11, 3) := dk_154 0 11 (dk_at dksX50_divide_4 6 rfl rfl)
theorem dX50_divide_105 : decode cX50_divide 105 = .ok (.aload_n 0, 1) := dk_42 (dk_at dksX50_divide_4 9 rfl rfl)
theorem dX50_divide_106 : decode cX50_divide 106 = .ok (.invokevirtual 220, 3) := dk_182 0 220 (dk_at dksX50_divide_4 10 rfl rfl)
theorem dX50_divide_109 : decode cX50_divide 109 = .ok (.lload_n 2, 1) := dk_32 (dk_at dksX50_divide_4 13 rfl rfl)
theorem dX50_divide_110 : decode cX50_divide 110 = .ok (.lconst 1, 1) := dk_10 (dk_at dksX50_divide_4 14 rfl rfl)
theorem dX50_divide_111 : decode cX50_divide 111 = .ok (.ladd, 1) := dk_97 (dk_at dksX50_divide_4 15 rfl rfl)
theorem dX50_divide_112 : decode cX50_divide 112 = .ok (.lstore_n 2, 1) := dk_65 (dk_at dksX50_divide_4 16 rfl rfl)
theorem dX50_divide_113 : decode cX50_divide 113 = .ok (.iinc 4 (-1), 3) := dk_132 4 255 (dk_at dksX50_divide_4 17 rfl rfl)
theorem dX50_divide_116 : decode cX50_divide 116 = .ok (.goto (-81), 3) := dk_167 255 175 (dk_at dksX50_divide_4 20 rfl rfl)
theorem dX50_divide_119 : decode cX50_divide 119 = .ok (.lload_n 2, 1) := dk_32 (dk_at dksX50_divide_4 23 rfl rfl)
theorem dX50_divide_120 : decode cX50_divide 120 = .ok (.lreturn, 1) := dk_173 (dk_at dksX50_divide_5 0 rfl rfl)
abbrev cX50_wordsOf : ByteArray := prog_64_method_42_code
def yX50_wordsOf : MethodName := ⟨RX50, "wordsOf", "(I)I"⟩
def dkwX50_wordsOf_1 : List UInt8 := [154, 0, 9, 132, 2, 255, 167, 255, 231, 28, 172]
abbrev dktX50_wordsOf_1 : List UInt8 := dkwX50_wordsOf_1 ++ []
def dkwX50_wordsOf_0 : List UInt8 := [16, 24, 61, 28, 158, 0, 27, 42, 180, 0, 78, 16, 24, 27, 104, 28, 96, 4, 100, 47, 9, 148]
abbrev dktX50_wordsOf_0 : List UInt8 := dkwX50_wordsOf_0 ++ dktX50_wordsOf_1
theorem dksX50_wordsOf_0 : cX50_wordsOf.data.toList.drop 0 = dktX50_wordsOf_0 := by decide +kernel
theorem dksX50_wordsOf_1 : cX50_wordsOf.data.toList.drop 22 = dktX50_wordsOf_1 := dk_seg dksX50_wordsOf_0 22 rfl rfl
theorem dX50_wordsOf_0 : decode cX50_wordsOf 0 = .ok (.bipush 24, 2) := dk_16 24 (dk_at dksX50_wordsOf_0 0 rfl rfl)
theorem dX50_wordsOf_2 : decode cX50_wordsOf 2 = .ok (.istore_n 2, 1) := dk_61 (dk_at dksX50_wordsOf_0 2 rfl rfl)
theorem dX50_wordsOf_3 : decode cX50_wordsOf 3 = .ok (.iload_n 2, 1) := dk_28 (dk_at dksX50_wordsOf_0 3 rfl rfl)
theorem dX50_wordsOf_4 : decode cX50_wordsOf 4 = .ok (.ifCond .le 27, 3) := dk_158 0 27 (dk_at dksX50_wordsOf_0 4 rfl rfl)
theorem dX50_wordsOf_7 : decode cX50_wordsOf 7 = .ok (.aload_n 0, 1) := dk_42 (dk_at dksX50_wordsOf_0 7 rfl rfl)
theorem dX50_wordsOf_8 : decode cX50_wordsOf 8 = .ok (.getfield 78, 3) := dk_180 0 78 (dk_at dksX50_wordsOf_0 8 rfl rfl)
theorem dX50_wordsOf_11 : decode cX50_wordsOf 11 = .ok (.bipush 24, 2) := dk_16 24 (dk_at dksX50_wordsOf_0 11 rfl rfl)
theorem dX50_wordsOf_13 : decode cX50_wordsOf 13 = .ok (.iload_n 1, 1) := dk_27 (dk_at dksX50_wordsOf_0 13 rfl rfl)
theorem dX50_wordsOf_14 : decode cX50_wordsOf 14 = .ok (.imul, 1) := dk_104 (dk_at dksX50_wordsOf_0 14 rfl rfl)
theorem dX50_wordsOf_15 : decode cX50_wordsOf 15 = .ok (.iload_n 2, 1) := dk_28 (dk_at dksX50_wordsOf_0 15 rfl rfl)
theorem dX50_wordsOf_16 : decode cX50_wordsOf 16 = .ok (.iadd, 1) := dk_96 (dk_at dksX50_wordsOf_0 16 rfl rfl)
theorem dX50_wordsOf_17 : decode cX50_wordsOf 17 = .ok (.iconst 1, 1) := dk_4 (dk_at dksX50_wordsOf_0 17 rfl rfl)
theorem dX50_wordsOf_18 : decode cX50_wordsOf 18 = .ok (.isub, 1) := dk_100 (dk_at dksX50_wordsOf_0 18 rfl rfl)
theorem dX50_wordsOf_19 : decode cX50_wordsOf 19 = .ok (.laload, 1) := dk_47 (dk_at dksX50_wordsOf_0 19 rfl rfl)
theorem dX50_wordsOf_20 : decode cX50_wordsOf 20 = .ok (.lconst 0, 1) := dk_9 (dk_at dksX50_wordsOf_0 20 rfl rfl)
theorem dX50_wordsOf_21 : decode cX50_wordsOf 21 = .ok (.lcmp, 1) := dk_148 (dk_at dksX50_wordsOf_0 21 rfl rfl)
theorem dX50_wordsOf_22 : decode cX50_wordsOf 22 = .ok (.ifCond .ne 9, 3) := dk_154 0 9 (dk_at dksX50_wordsOf_1 0 rfl rfl)
theorem dX50_wordsOf_25 : decode cX50_wordsOf 25 = .ok (.iinc 2 (-1), 3) := dk_132 2 255 (dk_at dksX50_wordsOf_1 3 rfl rfl)
theorem dX50_wordsOf_28 : decode cX50_wordsOf 28 = .ok (.goto (-25), 3) := dk_167 255 231 (dk_at dksX50_wordsOf_1 6 rfl rfl)
theorem dX50_wordsOf_31 : decode cX50_wordsOf 31 = .ok (.iload_n 2, 1) := dk_28 (dk_at dksX50_wordsOf_1 9 rfl rfl)
theorem dX50_wordsOf_32 : decode cX50_wordsOf 32 = .ok (.ireturn, 1) := dk_172 (dk_at dksX50_wordsOf_1 10 rfl rfl)
abbrev cX50_growUsed : ByteArray := prog_64_method_39_code
def yX50_growUsed : MethodName := ⟨RX50, "growUsed", "(J)V"⟩
def dkwX50_growUsed_2 : List UInt8 := [22, 6, 16, 28, 123, 66, 132, 5, 1, 167, 255, 204, 177]
abbrev dktX50_growUsed_2 : List UInt8 := dkwX50_growUsed_2 ++ []
def dkwX50_growUsed_1 : List UInt8 := [20, 0, 172, 105, 33, 97, 55, 6, 42, 180, 0, 78, 16, 48, 21, 5, 96, 22, 6, 20, 0, 190, 127, 80]
abbrev dktX50_growUsed_1 : List UInt8 := dkwX50_growUsed_1 ++ dktX50_growUsed_2
def dkwX50_growUsed_0 : List UInt8 := [31, 66, 3, 54, 5, 21, 5, 42, 180, 0, 203, 162, 0, 49, 42, 180, 0, 78, 16, 48, 21, 5, 96, 47]
abbrev dktX50_growUsed_0 : List UInt8 := dkwX50_growUsed_0 ++ dktX50_growUsed_1
theorem dksX50_growUsed_0 : cX50_growUsed.data.toList.drop 0 = dktX50_growUsed_0 := by decide +kernel
theorem dksX50_growUsed_1 : cX50_growUsed.data.toList.drop 24 = dktX50_growUsed_1 := dk_seg dksX50_growUsed_0 24 rfl rfl
theorem dksX50_growUsed_2 : cX50_growUsed.data.toList.drop 48 = dktX50_growUsed_2 := dk_seg dksX50_growUsed_1 24 rfl rfl
theorem dX50_growUsed_0 : decode cX50_growUsed 0 = .ok (.lload_n 1, 1) := dk_31 (dk_at dksX50_growUsed_0 0 rfl rfl)
theorem dX50_growUsed_1 : decode cX50_growUsed 1 = .ok (.lstore_n 3, 1) := dk_66 (dk_at dksX50_growUsed_0 1 rfl rfl)
theorem dX50_growUsed_2 : decode cX50_growUsed 2 = .ok (.iconst 0, 1) := dk_3 (dk_at dksX50_growUsed_0 2 rfl rfl)
theorem dX50_growUsed_3 : decode cX50_growUsed 3 = .ok (.istore 5, 2) := dk_54 5 (dk_at dksX50_growUsed_0 3 rfl rfl)
theorem dX50_growUsed_5 : decode cX50_growUsed 5 = .ok (.iload 5, 2) := dk_21 5 (dk_at dksX50_growUsed_0 5 rfl rfl)
theorem dX50_growUsed_7 : decode cX50_growUsed 7 = .ok (.aload_n 0, 1) := dk_42 (dk_at dksX50_growUsed_0 7 rfl rfl)
theorem dX50_growUsed_8 : decode cX50_growUsed 8 = .ok (.getfield 203, 3) := dk_180 0 203 (dk_at dksX50_growUsed_0 8 rfl rfl)
theorem dX50_growUsed_11 : decode cX50_growUsed 11 = .ok (.if_icmp .ge 49, 3) := dk_162 0 49 (dk_at dksX50_growUsed_0 11 rfl rfl)
theorem dX50_growUsed_14 : decode cX50_growUsed 14 = .ok (.aload_n 0, 1) := dk_42 (dk_at dksX50_growUsed_0 14 rfl rfl)
theorem dX50_growUsed_15 : decode cX50_growUsed 15 = .ok (.getfield 78, 3) := dk_180 0 78 (dk_at dksX50_growUsed_0 15 rfl rfl)
theorem dX50_growUsed_18 : decode cX50_growUsed 18 = .ok (.bipush 48, 2) := dk_16 48 (dk_at dksX50_growUsed_0 18 rfl rfl)
theorem dX50_growUsed_20 : decode cX50_growUsed 20 = .ok (.iload 5, 2) := dk_21 5 (dk_at dksX50_growUsed_0 20 rfl rfl)
theorem dX50_growUsed_22 : decode cX50_growUsed 22 = .ok (.iadd, 1) := dk_96 (dk_at dksX50_growUsed_0 22 rfl rfl)
theorem dX50_growUsed_23 : decode cX50_growUsed 23 = .ok (.laload, 1) := dk_47 (dk_at dksX50_growUsed_0 23 rfl rfl)
theorem dX50_growUsed_24 : decode cX50_growUsed 24 = .ok (.ldc2_w 172, 3) := dk_20 0 172 (dk_at dksX50_growUsed_1 0 rfl rfl)
theorem dX50_growUsed_27 : decode cX50_growUsed 27 = .ok (.lmul, 1) := dk_105 (dk_at dksX50_growUsed_1 3 rfl rfl)
theorem dX50_growUsed_28 : decode cX50_growUsed 28 = .ok (.lload_n 3, 1) := dk_33 (dk_at dksX50_growUsed_1 4 rfl rfl)
theorem dX50_growUsed_29 : decode cX50_growUsed 29 = .ok (.ladd, 1) := dk_97 (dk_at dksX50_growUsed_1 5 rfl rfl)
theorem dX50_growUsed_30 : decode cX50_growUsed 30 = .ok (.lstore 6, 2) := dk_55 6 (dk_at dksX50_growUsed_1 6 rfl rfl)
theorem dX50_growUsed_32 : decode cX50_growUsed 32 = .ok (.aload_n 0, 1) := dk_42 (dk_at dksX50_growUsed_1 8 rfl rfl)
theorem dX50_growUsed_33 : decode cX50_growUsed 33 = .ok (.getfield 78, 3) := dk_180 0 78 (dk_at dksX50_growUsed_1 9 rfl rfl)
theorem dX50_growUsed_36 : decode cX50_growUsed 36 = .ok (.bipush 48, 2) := dk_16 48 (dk_at dksX50_growUsed_1 12 rfl rfl)
theorem dX50_growUsed_38 : decode cX50_growUsed 38 = .ok (.iload 5, 2) := dk_21 5 (dk_at dksX50_growUsed_1 14 rfl rfl)
theorem dX50_growUsed_40 : decode cX50_growUsed 40 = .ok (.iadd, 1) := dk_96 (dk_at dksX50_growUsed_1 16 rfl rfl)
theorem dX50_growUsed_41 : decode cX50_growUsed 41 = .ok (.lload 6, 2) := dk_22 6 (dk_at dksX50_growUsed_1 17 rfl rfl)
theorem dX50_growUsed_43 : decode cX50_growUsed 43 = .ok (.ldc2_w 190, 3) := dk_20 0 190 (dk_at dksX50_growUsed_1 19 rfl rfl)
theorem dX50_growUsed_46 : decode cX50_growUsed 46 = .ok (.land, 1) := dk_127 (dk_at dksX50_growUsed_1 22 rfl rfl)
theorem dX50_growUsed_47 : decode cX50_growUsed 47 = .ok (.lastore, 1) := dk_80 (dk_at dksX50_growUsed_1 23 rfl rfl)
theorem dX50_growUsed_48 : decode cX50_growUsed 48 = .ok (.lload 6, 2) := dk_22 6 (dk_at dksX50_growUsed_2 0 rfl rfl)
theorem dX50_growUsed_50 : decode cX50_growUsed 50 = .ok (.bipush 28, 2) := dk_16 28 (dk_at dksX50_growUsed_2 2 rfl rfl)
theorem dX50_growUsed_52 : decode cX50_growUsed 52 = .ok (.lshr, 1) := dk_123 (dk_at dksX50_growUsed_2 4 rfl rfl)
theorem dX50_growUsed_53 : decode cX50_growUsed 53 = .ok (.lstore_n 3, 1) := dk_66 (dk_at dksX50_growUsed_2 5 rfl rfl)
theorem dX50_growUsed_54 : decode cX50_growUsed 54 = .ok (.iinc 5 1, 3) := dk_132 5 1 (dk_at dksX50_growUsed_2 6 rfl rfl)
theorem dX50_growUsed_57 : decode cX50_growUsed 57 = .ok (.goto (-52), 3) := dk_167 255 204 (dk_at dksX50_growUsed_2 9 rfl rfl)
theorem dX50_growUsed_60 : decode cX50_growUsed 60 = .ok (.return_, 1) := dk_177 (dk_at dksX50_growUsed_2 12 rfl rfl)
abbrev cX50_isLeftLess : ByteArray := prog_64_method_40_code
def yX50_isLeftLess : MethodName := ⟨RX50, "isLeftLess", "()Z"⟩
def dkwX50_isLeftLess_2 : List UInt8 := [27, 96, 47, 148, 156, 0, 7, 4, 167, 0, 4, 3, 172, 132, 1, 255, 167, 255, 199, 3, 172]
abbrev dktX50_isLeftLess_2 : List UInt8 := dkwX50_isLeftLess_2 ++ []
def dkwX50_isLeftLess_1 : List UInt8 := [16, 24, 27, 96, 47, 148, 153, 0, 31, 42, 180, 0, 78, 16, 48, 27, 96, 47, 42, 180, 0, 78, 16, 24]
abbrev dktX50_isLeftLess_1 : List UInt8 := dkwX50_isLeftLess_1 ++ dktX50_isLeftLess_2
def dkwX50_isLeftLess_0 : List UInt8 := [42, 180, 0, 203, 4, 100, 60, 27, 155, 0, 59, 42, 180, 0, 78, 16, 48, 27, 96, 47, 42, 180, 0, 78]
abbrev dktX50_isLeftLess_0 : List UInt8 := dkwX50_isLeftLess_0 ++ dktX50_isLeftLess_1
theorem dksX50_isLeftLess_0 : cX50_isLeftLess.data.toList.drop 0 = dktX50_isLeftLess_0 := by decide +kernel
theorem dksX50_isLeftLess_1 : cX50_isLeftLess.data.toList.drop 24 = dktX50_isLeftLess_1 := dk_seg dksX50_isLeftLess_0 24 rfl rfl
theorem dksX50_isLeftLess_2 : cX50_isLeftLess.data.toList.drop 48 = dktX50_isLeftLess_2 := dk_seg dksX50_isLeftLess_1 24 rfl rfl
theorem dX50_isLeftLess_0 : decode cX50_isLeftLess 0 = .ok (.aload_n 0, 1) := dk_42 (dk_at dksX50_isLeftLess_0 0 rfl rfl)
theorem dX50_isLeftLess_1 : decode cX50_isLeftLess 1 = .ok (.getfield 203, 3) := dk_180 0 203 (dk_at dksX50_isLeftLess_0 1 rfl rfl)
theorem dX50_isLeftLess_4 : decode cX50_isLeftLess 4 = .ok (.iconst 1, 1) := dk_4 (dk_at dksX50_isLeftLess_0 4 rfl rfl)
theorem dX50_isLeftLess_5 : decode cX50_isLeftLess 5 = .ok (.isub, 1) := dk_100 (dk_at dksX50_isLeftLess_0 5 rfl rfl)
theorem dX50_isLeftLess_6 : decode cX50_isLeftLess 6 = .ok (.istore_n 1, 1) := dk_60 (dk_at dksX50_isLeftLess_0 6 rfl rfl)
theorem dX50_isLeftLess_7 : decode cX50_isLeftLess 7 = .ok (.iload_n 1, 1) := dk_27 (dk_at dksX50_isLeftLess_0 7 rfl rfl)
theorem dX50_isLeftLess_8 : decode cX50_isLeftLess 8 = .ok (.ifCond .lt 59, 3) := dk_155 0 59 (dk_at dksX50_isLeftLess_0 8 rfl rfl)
theorem dX50_isLeftLess_11 : decode cX50_isLeftLess 11 = .ok (.aload_n 0, 1) := dk_42 (dk_at dksX50_isLeftLess_0 11 rfl rfl)
theorem dX50_isLeftLess_12 : decode cX50_isLeftLess 12 = .ok (.getfield 78, 3) := dk_180 0 78 (dk_at dksX50_isLeftLess_0 12 rfl rfl)
theorem dX50_isLeftLess_15 : decode cX50_isLeftLess 15 = .ok (.bipush 48, 2) := dk_16 48 (dk_at dksX50_isLeftLess_0 15 rfl rfl)
theorem dX50_isLeftLess_17 : decode cX50_isLeftLess 17 = .ok (.iload_n 1, 1) := dk_27 (dk_at dksX50_isLeftLess_0 17 rfl rfl)
theorem dX50_isLeftLess_18 : decode cX50_isLeftLess 18 = .ok (.iadd, 1) := dk_96 (dk_at dksX50_isLeftLess_0 18 rfl rfl)
theorem dX50_isLeftLess_19 : decode cX50_isLeftLess 19 = .ok (.laload, 1) := dk_47 (dk_at dksX50_isLeftLess_0 19 rfl rfl)
theorem dX50_isLeftLess_20 : decode cX50_isLeftLess 20 = .ok (.aload_n 0, 1) := dk_42 (dk_at dksX50_isLeftLess_0 20 rfl rfl)
theorem dX50_isLeftLess_21 : decode cX50_isLeftLess 21 = .ok (.getfield 78, 3) := dk_180 0 78 (dk_at dksX50_isLeftLess_0 21 rfl rfl)
theorem dX50_isLeftLess_24 : decode cX50_isLeftLess 24 = .ok (.bipush 24, 2) := dk_16 24 (dk_at dksX50_isLeftLess_1 0 rfl rfl)
theorem dX50_isLeftLess_26 : decode cX50_isLeftLess 26 = .ok (.iload_n 1, 1) := dk_27 (dk_at dksX50_isLeftLess_1 2 rfl rfl)
theorem dX50_isLeftLess_27 : decode cX50_isLeftLess 27 = .ok (.iadd, 1) := dk_96 (dk_at dksX50_isLeftLess_1 3 rfl rfl)
theorem dX50_isLeftLess_28 : decode cX50_isLeftLess 28 = .ok (.laload, 1) := dk_47 (dk_at dksX50_isLeftLess_1 4 rfl rfl)
theorem dX50_isLeftLess_29 : decode cX50_isLeftLess 29 = .ok (.lcmp, 1) := dk_148 (dk_at dksX50_isLeftLess_1 5 rfl rfl)
theorem dX50_isLeftLess_30 : decode cX50_isLeftLess 30 = .ok (.ifCond .eq 31, 3) := dk_153 0 31 (dk_at dksX50_isLeftLess_1 6 rfl rfl)
theorem dX50_isLeftLess_33 : decode cX50_isLeftLess 33 = .ok (.aload_n 0, 1) := dk_42 (dk_at dksX50_isLeftLess_1 9 rfl rfl)
theorem dX50_isLeftLess_34 : decode cX50_isLeftLess 34 = .ok (.getfield 78, 3) := dk_180 0 78 (dk_at dksX50_isLeftLess_1 10 rfl rfl)
theorem dX50_isLeftLess_37 : decode cX50_isLeftLess 37 = .ok (.bipush 48, 2) := dk_16 48 (dk_at dksX50_isLeftLess_1 13 rfl rfl)
theorem dX50_isLeftLess_39 : decode cX50_isLeftLess 39 = .ok (.iload_n 1, 1) := dk_27 (dk_at dksX50_isLeftLess_1 15 rfl rfl)
theorem dX50_isLeftLess_40 : decode cX50_isLeftLess 40 = .ok (.iadd, 1) := dk_96 (dk_at dksX50_isLeftLess_1 16 rfl rfl)
theorem dX50_isLeftLess_41 : decode cX50_isLeftLess 41 = .ok (.laload, 1) := dk_47 (dk_at dksX50_isLeftLess_1 17 rfl rfl)
theorem dX50_isLeftLess_42 : decode cX50_isLeftLess 42 = .ok (.aload_n 0, 1) := dk_42 (dk_at dksX50_isLeftLess_1 18 rfl rfl)
theorem dX50_isLeftLess_43 : decode cX50_isLeftLess 43 = .ok (.getfield 78, 3) := dk_180 0 78 (dk_at dksX50_isLeftLess_1 19 rfl rfl)
theorem dX50_isLeftLess_46 : decode cX50_isLeftLess 46 = .ok (.bipush 24, 2) := dk_16 24 (dk_at dksX50_isLeftLess_1 22 rfl rfl)
theorem dX50_isLeftLess_48 : decode cX50_isLeftLess 48 = .ok (.iload_n 1, 1) := dk_27 (dk_at dksX50_isLeftLess_2 0 rfl rfl)
theorem dX50_isLeftLess_49 : decode cX50_isLeftLess 49 = .ok (.iadd, 1) := dk_96 (dk_at dksX50_isLeftLess_2 1 rfl rfl)
theorem dX50_isLeftLess_50 : decode cX50_isLeftLess 50 = .ok (.laload, 1) := dk_47 (dk_at dksX50_isLeftLess_2 2 rfl rfl)
theorem dX50_isLeftLess_51 : decode cX50_isLeftLess 51 = .ok (.lcmp, 1) := dk_148 (dk_at dksX50_isLeftLess_2 3 rfl rfl)
theorem dX50_isLeftLess_52 : decode cX50_isLeftLess 52 = .ok (.ifCond .ge 7, 3) := dk_156 0 7 (dk_at dksX50_isLeftLess_2 4 rfl rfl)
theorem dX50_isLeftLess_55 : decode cX50_isLeftLess 55 = .ok (.iconst 1, 1) := dk_4 (dk_at dksX50_isLeftLess_2 7 rfl rfl)
theorem dX50_isLeftLess_56 : decode cX50_isLeftLess 56 = .ok (.goto 4, 3) := dk_167 0 4 (dk_at dksX50_isLeftLess_2 8 rfl rfl)
theorem dX50_isLeftLess_59 : decode cX50_isLeftLess 59 = .ok (.iconst 0, 1) := dk_3 (dk_at dksX50_isLeftLess_2 11 rfl rfl)
theorem dX50_isLeftLess_60 : decode cX50_isLeftLess 60 = .ok (.ireturn, 1) := dk_172 (dk_at dksX50_isLeftLess_2 12 rfl rfl)
theorem dX50_isLeftLess_61 : decode cX50_isLeftLess 61 = .ok (.iinc 1 (-1), 3) := dk_132 1 255 (dk_at dksX50_isLeftLess_2 13 rfl rfl)
theorem dX50_isLeftLess_64 : decode cX50_isLeftLess 64 = .ok (.goto (-57), 3) := dk_167 255 199 (dk_at dksX50_isLeftLess_2 16 rfl rfl)
theorem dX50_isLeftLess_67 : decode cX50_isLeftLess 67 = .ok (.iconst 0, 1) := dk_3 (dk_at dksX50_isLeftLess_2 19 rfl rfl)
theorem dX50_isLeftLess_68 : decode cX50_isLeftLess 68 = .ok (.ireturn, 1) := dk_172 (dk_at dksX50_isLeftLess_2 20 rfl rfl)
abbrev cX50_lessenLeft : ByteArray := prog_64_method_41_code
def yX50_lessenLeft : MethodName := ⟨RX50, "lessenLeft", "()V"⟩
def dkwX50_lessenLeft_2 : List UInt8 := [9, 64, 42, 180, 0, 78, 16, 48, 29, 96, 22, 4, 20, 0, 190, 127, 80, 132, 3, 1, 167, 255, 194, 177]
abbrev dktX50_lessenLeft_2 : List UInt8 := dkwX50_lessenLeft_2 ++ []
def dkwX50_lessenLeft_1 : List UInt8 := [180, 0, 78, 16, 24, 29, 96, 47, 101, 31, 101, 55, 4, 22, 4, 9, 148, 156, 0, 7, 10, 167, 0, 4]
abbrev dktX50_lessenLeft_1 : List UInt8 := dkwX50_lessenLeft_1 ++ dktX50_lessenLeft_2
def dkwX50_lessenLeft_0 : List UInt8 := [9, 64, 3, 62, 29, 42, 180, 0, 203, 162, 0, 60, 42, 180, 0, 78, 16, 48, 29, 96, 47, 42]
abbrev dktX50_lessenLeft_0 : List UInt8 := dkwX50_lessenLeft_0 ++ dktX50_lessenLeft_1
theorem dksX50_lessenLeft_0 : cX50_lessenLeft.data.toList.drop 0 = dktX50_lessenLeft_0 := by decide +kernel
theorem dksX50_lessenLeft_1 : cX50_lessenLeft.data.toList.drop 22 = dktX50_lessenLeft_1 := dk_seg dksX50_lessenLeft_0 22 rfl rfl
theorem dksX50_lessenLeft_2 : cX50_lessenLeft.data.toList.drop 46 = dktX50_lessenLeft_2 := dk_seg dksX50_lessenLeft_1 24 rfl rfl
theorem dX50_lessenLeft_0 : decode cX50_lessenLeft 0 = .ok (.lconst 0, 1) := dk_9 (dk_at dksX50_lessenLeft_0 0 rfl rfl)
theorem dX50_lessenLeft_1 : decode cX50_lessenLeft 1 = .ok (.lstore_n 1, 1) := dk_64 (dk_at dksX50_lessenLeft_0 1 rfl rfl)
theorem dX50_lessenLeft_2 : decode cX50_lessenLeft 2 = .ok (.iconst 0, 1) := dk_3 (dk_at dksX50_lessenLeft_0 2 rfl rfl)
theorem dX50_lessenLeft_3 : decode cX50_lessenLeft 3 = .ok (.istore_n 3, 1) := dk_62 (dk_at dksX50_lessenLeft_0 3 rfl rfl)
theorem dX50_lessenLeft_4 : decode cX50_lessenLeft 4 = .ok (.iload_n 3, 1) := dk_29 (dk_at dksX50_lessenLeft_0 4 rfl rfl)
theorem dX50_lessenLeft_5 : decode cX50_lessenLeft 5 = .ok (.aload_n 0, 1) := dk_42 (dk_at dksX50_lessenLeft_0 5 rfl rfl)
theorem dX50_lessenLeft_6 : decode cX50_lessenLeft 6 = .ok (.getfield 203, 3) := dk_180 0 203 (dk_at dksX50_lessenLeft_0 6 rfl rfl)
theorem dX50_lessenLeft_9 : decode cX50_lessenLeft 9 = .ok (.if_icmp .ge 60, 3) := dk_162 0 60 (dk_at dksX50_lessenLeft_0 9 rfl rfl)
theorem dX50_lessenLeft_12 : decode cX50_lessenLeft 12 = .ok (.aload_n 0, 1) := dk_42 (dk_at dksX50_lessenLeft_0 12 rfl rfl)
theorem dX50_lessenLeft_13 : decode cX50_lessenLeft 13 = .ok (.getfield 78, 3) := dk_180 0 78 (dk_at dksX50_lessenLeft_0 13 rfl rfl)
theorem dX50_lessenLeft_16 : decode cX50_lessenLeft 16 = .ok (.bipush 48, 2) := dk_16 48 (dk_at dksX50_lessenLeft_0 16 rfl rfl)
theorem dX50_lessenLeft_18 : decode cX50_lessenLeft 18 = .ok (.iload_n 3, 1) := dk_29 (dk_at dksX50_lessenLeft_0 18 rfl rfl)
theorem dX50_lessenLeft_19 : decode cX50_lessenLeft 19 = .ok (.iadd, 1) := dk_96 (dk_at dksX50_lessenLeft_0 19 rfl rfl)
theorem dX50_lessenLeft_20 : decode cX50_lessenLeft 20 = .ok (.laload, 1) := dk_47 (dk_at dksX50_lessenLeft_0 20 rfl rfl)
theorem dX50_lessenLeft_21 : decode cX50_lessenLeft 21 = .ok (.aload_n 0, 1) := dk_42 (dk_at dksX50_lessenLeft_0 21 rfl rfl)
theorem dX50_lessenLeft_22 : decode cX50_lessenLeft 22 = .ok (.getfield 78, 3) := dk_180 0 78 (dk_at dksX50_lessenLeft_1 0 rfl rfl)
theorem dX50_lessenLeft_25 : decode cX50_lessenLeft 25 = .ok (.bipush 24, 2) := dk_16 24 (dk_at dksX50_lessenLeft_1 3 rfl rfl)
theorem dX50_lessenLeft_27 : decode cX50_lessenLeft 27 = .ok (.iload_n 3, 1) := dk_29 (dk_at dksX50_lessenLeft_1 5 rfl rfl)
theorem dX50_lessenLeft_28 : decode cX50_lessenLeft 28 = .ok (.iadd, 1) := dk_96 (dk_at dksX50_lessenLeft_1 6 rfl rfl)
theorem dX50_lessenLeft_29 : decode cX50_lessenLeft 29 = .ok (.laload, 1) := dk_47 (dk_at dksX50_lessenLeft_1 7 rfl rfl)
theorem dX50_lessenLeft_30 : decode cX50_lessenLeft 30 = .ok (.lsub, 1) := dk_101 (dk_at dksX50_lessenLeft_1 8 rfl rfl)
theorem dX50_lessenLeft_31 : decode cX50_lessenLeft 31 = .ok (.lload_n 1, 1) := dk_31 (dk_at dksX50_lessenLeft_1 9 rfl rfl)
theorem dX50_lessenLeft_32 : decode cX50_lessenLeft 32 = .ok (.lsub, 1) := dk_101 (dk_at dksX50_lessenLeft_1 10 rfl rfl)
theorem dX50_lessenLeft_33 : decode cX50_lessenLeft 33 = .ok (.lstore 4, 2) := dk_55 4 (dk_at dksX50_lessenLeft_1 11 rfl rfl)
theorem dX50_lessenLeft_35 : decode cX50_lessenLeft 35 = .ok (.lload 4, 2) := dk_22 4 (dk_at dksX50_lessenLeft_1 13 rfl rfl)
theorem dX50_lessenLeft_37 : decode cX50_lessenLeft 37 = .ok (.lconst 0, 1) := dk_9 (dk_at dksX50_lessenLeft_1 15 rfl rfl)
theorem dX50_lessenLeft_38 : decode cX50_lessenLeft 38 = .ok (.lcmp, 1) := dk_148 (dk_at dksX50_lessenLeft_1 16 rfl rfl)
theorem dX50_lessenLeft_39 : decode cX50_lessenLeft 39 = .ok (.ifCond .ge 7, 3) := dk_156 0 7 (dk_at dksX50_lessenLeft_1 17 rfl rfl)
theorem dX50_lessenLeft_42 : decode cX50_lessenLeft 42 = .ok (.lconst 1, 1) := dk_10 (dk_at dksX50_lessenLeft_1 20 rfl rfl)
theorem dX50_lessenLeft_43 : decode cX50_lessenLeft 43 = .ok (.goto 4, 3) := dk_167 0 4 (dk_at dksX50_lessenLeft_1 21 rfl rfl)
theorem dX50_lessenLeft_46 : decode cX50_lessenLeft 46 = .ok (.lconst 0, 1) := dk_9 (dk_at dksX50_lessenLeft_2 0 rfl rfl)
theorem dX50_lessenLeft_47 : decode cX50_lessenLeft 47 = .ok (.lstore_n 1, 1) := dk_64 (dk_at dksX50_lessenLeft_2 1 rfl rfl)
theorem dX50_lessenLeft_48 : decode cX50_lessenLeft 48 = .ok (.aload_n 0, 1) := dk_42 (dk_at dksX50_lessenLeft_2 2 rfl rfl)
theorem dX50_lessenLeft_49 : decode cX50_lessenLeft 49 = .ok (.getfield 78, 3) := dk_180 0 78 (dk_at dksX50_lessenLeft_2 3 rfl rfl)
theorem dX50_lessenLeft_52 : decode cX50_lessenLeft 52 = .ok (.bipush 48, 2) := dk_16 48 (dk_at dksX50_lessenLeft_2 6 rfl rfl)
theorem dX50_lessenLeft_54 : decode cX50_lessenLeft 54 = .ok (.iload_n 3, 1) := dk_29 (dk_at dksX50_lessenLeft_2 8 rfl rfl)
theorem dX50_lessenLeft_55 : decode cX50_lessenLeft 55 = .ok (.iadd, 1) := dk_96 (dk_at dksX50_lessenLeft_2 9 rfl rfl)
theorem dX50_lessenLeft_56 : decode cX50_lessenLeft 56 = .ok (.lload 4, 2) := dk_22 4 (dk_at dksX50_lessenLeft_2 10 rfl rfl)
theorem dX50_lessenLeft_58 : decode cX50_lessenLeft 58 = .ok (.ldc2_w 190, 3) := dk_20 0 190 (dk_at dksX50_lessenLeft_2 12 rfl rfl)
theorem dX50_lessenLeft_61 : decode cX50_lessenLeft 61 = .ok (.land, 1) := dk_127 (dk_at dksX50_lessenLeft_2 15 rfl rfl)
theorem dX50_lessenLeft_62 : decode cX50_lessenLeft 62 = .ok (.lastore, 1) := dk_80 (dk_at dksX50_lessenLeft_2 16 rfl rfl)
theorem dX50_lessenLeft_63 : decode cX50_lessenLeft 63 = .ok (.iinc 3 1, 3) := dk_132 3 1 (dk_at dksX50_lessenLeft_2 17 rfl rfl)
theorem dX50_lessenLeft_66 : decode cX50_lessenLeft 66 = .ok (.goto (-62), 3) := dk_167 255 194 (dk_at dksX50_lessenLeft_2 20 rfl rfl)
theorem dX50_lessenLeft_69 : decode cX50_lessenLeft 69 = .ok (.return_, 1) := dk_177 (dk_at dksX50_lessenLeft_2 23 rfl rfl)
abbrev cX50_isZero : ByteArray := prog_64_method_34_code
def yX50_isZero : MethodName := ⟨RX50, "isZero", "(I)Z"⟩
def dkwX50_isZero_1 : List UInt8 := [47, 9, 148, 154, 0, 7, 4, 167, 0, 4, 3, 61, 132, 3, 1, 167, 255, 221, 28, 172]
abbrev dktX50_isZero_1 : List UInt8 := dkwX50_isZero_1 ++ []
def dkwX50_isZero_0 : List UInt8 := [4, 61, 3, 62, 29, 16, 24, 162, 0, 35, 28, 153, 0, 23, 42, 180, 0, 78, 16, 24, 27, 104, 29, 96]
abbrev dktX50_isZero_0 : List UInt8 := dkwX50_isZero_0 ++ dktX50_isZero_1
theorem dksX50_isZero_0 : cX50_isZero.data.toList.drop 0 = dktX50_isZero_0 := by decide +kernel
theorem dksX50_isZero_1 : cX50_isZero.data.toList.drop 24 = dktX50_isZero_1 := dk_seg dksX50_isZero_0 24 rfl rfl
theorem dX50_isZero_0 : decode cX50_isZero 0 = .ok (.iconst 1, 1) := dk_4 (dk_at dksX50_isZero_0 0 rfl rfl)
theorem dX50_isZero_1 : decode cX50_isZero 1 = .ok (.istore_n 2, 1) := dk_61 (dk_at dksX50_isZero_0 1 rfl rfl)
theorem dX50_isZero_2 : decode cX50_isZero 2 = .ok (.iconst 0, 1) := dk_3 (dk_at dksX50_isZero_0 2 rfl rfl)
theorem dX50_isZero_3 : decode cX50_isZero 3 = .ok (.istore_n 3, 1) := dk_62 (dk_at dksX50_isZero_0 3 rfl rfl)
theorem dX50_isZero_4 : decode cX50_isZero 4 = .ok (.iload_n 3, 1) := dk_29 (dk_at dksX50_isZero_0 4 rfl rfl)
theorem dX50_isZero_5 : decode cX50_isZero 5 = .ok (.bipush 24, 2) := dk_16 24 (dk_at dksX50_isZero_0 5 rfl rfl)
theorem dX50_isZero_7 : decode cX50_isZero 7 = .ok (.if_icmp .ge 35, 3) := dk_162 0 35 (dk_at dksX50_isZero_0 7 rfl rfl)
theorem dX50_isZero_10 : decode cX50_isZero 10 = .ok (.iload_n 2, 1) := dk_28 (dk_at dksX50_isZero_0 10 rfl rfl)
theorem dX50_isZero_11 : decode cX50_isZero 11 = .ok (.ifCond .eq 23, 3) := dk_153 0 23 (dk_at dksX50_isZero_0 11 rfl rfl)
theorem dX50_isZero_14 : decode cX50_isZero 14 = .ok (.aload_n 0, 1) := dk_42 (dk_at dksX50_isZero_0 14 rfl rfl)
theorem dX50_isZero_15 : decode cX50_isZero 15 = .ok (.getfield 78, 3) := dk_180 0 78 (dk_at dksX50_isZero_0 15 rfl rfl)
theorem dX50_isZero_18 : decode cX50_isZero 18 = .ok (.bipush 24, 2) := dk_16 24 (dk_at dksX50_isZero_0 18 rfl rfl)
theorem dX50_isZero_20 : decode cX50_isZero 20 = .ok (.iload_n 1, 1) := dk_27 (dk_at dksX50_isZero_0 20 rfl rfl)
theorem dX50_isZero_21 : decode cX50_isZero 21 = .ok (.imul, 1) := dk_104 (dk_at dksX50_isZero_0 21 rfl rfl)
theorem dX50_isZero_22 : decode cX50_isZero 22 = .ok (.iload_n 3, 1) := dk_29 (dk_at dksX50_isZero_0 22 rfl rfl)
theorem dX50_isZero_23 : decode cX50_isZero 23 = .ok (.iadd, 1) := dk_96 (dk_at dksX50_isZero_0 23 rfl rfl)
theorem dX50_isZero_24 : decode cX50_isZero 24 = .ok (.laload, 1) := dk_47 (dk_at dksX50_isZero_1 0 rfl rfl)
theorem dX50_isZero_25 : decode cX50_isZero 25 = .ok (.lconst 0, 1) := dk_9 (dk_at dksX50_isZero_1 1 rfl rfl)
theorem dX50_isZero_26 : decode cX50_isZero 26 = .ok (.lcmp, 1) := dk_148 (dk_at dksX50_isZero_1 2 rfl rfl)
theorem dX50_isZero_27 : decode cX50_isZero 27 = .ok (.ifCond .ne 7, 3) := dk_154 0 7 (dk_at dksX50_isZero_1 3 rfl rfl)
theorem dX50_isZero_30 : decode cX50_isZero 30 = .ok (.iconst 1, 1) := dk_4 (dk_at dksX50_isZero_1 6 rfl rfl)
theorem dX50_isZero_31 : decode cX50_isZero 31 = .ok (.goto 4, 3) := dk_167 0 4 (dk_at dksX50_isZero_1 7 rfl rfl)
theorem dX50_isZero_34 : decode cX50_isZero 34 = .ok (.iconst 0, 1) := dk_3 (dk_at dksX50_isZero_1 10 rfl rfl)
theorem dX50_isZero_35 : decode cX50_isZero 35 = .ok (.istore_n 2, 1) := dk_61 (dk_at dksX50_isZero_1 11 rfl rfl)
theorem dX50_isZero_36 : decode cX50_isZero 36 = .ok (.iinc 3 1, 3) := dk_132 3 1 (dk_at dksX50_isZero_1 12 rfl rfl)
theorem dX50_isZero_39 : decode cX50_isZero 39 = .ok (.goto (-35), 3) := dk_167 255 221 (dk_at dksX50_isZero_1 15 rfl rfl)
theorem dX50_isZero_42 : decode cX50_isZero 42 = .ok (.iload_n 2, 1) := dk_28 (dk_at dksX50_isZero_1 18 rfl rfl)
theorem dX50_isZero_43 : decode cX50_isZero 43 = .ok (.ireturn, 1) := dk_172 (dk_at dksX50_isZero_1 19 rfl rfl)
abbrev cX50_copy : ByteArray := prog_64_method_31_code
def yX50_copy : MethodName := ⟨RX50, "copy", "(II)V"⟩
def dkwX50_copy_1 : List UInt8 := [27, 104, 29, 96, 47, 80, 132, 3, 1, 167, 255, 225, 177]
abbrev dktX50_copy_1 : List UInt8 := dkwX50_copy_1 ++ []
def dkwX50_copy_0 : List UInt8 := [3, 62, 29, 16, 24, 162, 0, 31, 42, 180, 0, 78, 16, 24, 28, 104, 29, 96, 42, 180, 0, 78, 16, 24]
abbrev dktX50_copy_0 : List UInt8 := dkwX50_copy_0 ++ dktX50_copy_1
theorem dksX50_copy_0 : cX50_copy.data.toList.drop 0 = dktX50_copy_0 := by decide +kernel
theorem dksX50_copy_1 : cX50_copy.data.toList.drop 24 = dktX50_copy_1 := dk_seg dksX50_copy_0 24 rfl rfl
theorem dX50_copy_0 : decode cX50_copy 0 = .ok (.iconst 0, 1) := dk_3 (dk_at dksX50_copy_0 0 rfl rfl)
theorem dX50_copy_1 : decode cX50_copy 1 = .ok (.istore_n 3, 1) := dk_62 (dk_at dksX50_copy_0 1 rfl rfl)
theorem dX50_copy_2 : decode cX50_copy 2 = .ok (.iload_n 3, 1) := dk_29 (dk_at dksX50_copy_0 2 rfl rfl)
theorem dX50_copy_3 : decode cX50_copy 3 = .ok (.bipush 24, 2) := dk_16 24 (dk_at dksX50_copy_0 3 rfl rfl)
theorem dX50_copy_5 : decode cX50_copy 5 = .ok (.if_icmp .ge 31, 3) := dk_162 0 31 (dk_at dksX50_copy_0 5 rfl rfl)
theorem dX50_copy_8 : decode cX50_copy 8 = .ok (.aload_n 0, 1) := dk_42 (dk_at dksX50_copy_0 8 rfl rfl)
theorem dX50_copy_9 : decode cX50_copy 9 = .ok (.getfield 78, 3) := dk_180 0 78 (dk_at dksX50_copy_0 9 rfl rfl)
theorem dX50_copy_12 : decode cX50_copy 12 = .ok (.bipush 24, 2) := dk_16 24 (dk_at dksX50_copy_0 12 rfl rfl)
theorem dX50_copy_14 : decode cX50_copy 14 = .ok (.iload_n 2, 1) := dk_28 (dk_at dksX50_copy_0 14 rfl rfl)
theorem dX50_copy_15 : decode cX50_copy 15 = .ok (.imul, 1) := dk_104 (dk_at dksX50_copy_0 15 rfl rfl)
theorem dX50_copy_16 : decode cX50_copy 16 = .ok (.iload_n 3, 1) := dk_29 (dk_at dksX50_copy_0 16 rfl rfl)
theorem dX50_copy_17 : decode cX50_copy 17 = .ok (.iadd, 1) := dk_96 (dk_at dksX50_copy_0 17 rfl rfl)
theorem dX50_copy_18 : decode cX50_copy 18 = .ok (.aload_n 0, 1) := dk_42 (dk_at dksX50_copy_0 18 rfl rfl)
theorem dX50_copy_19 : decode cX50_copy 19 = .ok (.getfield 78, 3) := dk_180 0 78 (dk_at dksX50_copy_0 19 rfl rfl)
theorem dX50_copy_22 : decode cX50_copy 22 = .ok (.bipush 24, 2) := dk_16 24 (dk_at dksX50_copy_0 22 rfl rfl)
theorem dX50_copy_24 : decode cX50_copy 24 = .ok (.iload_n 1, 1) := dk_27 (dk_at dksX50_copy_1 0 rfl rfl)
theorem dX50_copy_25 : decode cX50_copy 25 = .ok (.imul, 1) := dk_104 (dk_at dksX50_copy_1 1 rfl rfl)
theorem dX50_copy_26 : decode cX50_copy 26 = .ok (.iload_n 3, 1) := dk_29 (dk_at dksX50_copy_1 2 rfl rfl)
theorem dX50_copy_27 : decode cX50_copy 27 = .ok (.iadd, 1) := dk_96 (dk_at dksX50_copy_1 3 rfl rfl)
theorem dX50_copy_28 : decode cX50_copy 28 = .ok (.laload, 1) := dk_47 (dk_at dksX50_copy_1 4 rfl rfl)
theorem dX50_copy_29 : decode cX50_copy 29 = .ok (.lastore, 1) := dk_80 (dk_at dksX50_copy_1 5 rfl rfl)
theorem dX50_copy_30 : decode cX50_copy 30 = .ok (.iinc 3 1, 3) := dk_132 3 1 (dk_at dksX50_copy_1 6 rfl rfl)
theorem dX50_copy_33 : decode cX50_copy 33 = .ok (.goto (-31), 3) := dk_167 255 225 (dk_at dksX50_copy_1 9 rfl rfl)
theorem dX50_copy_36 : decode cX50_copy 36 = .ok (.return_, 1) := dk_177 (dk_at dksX50_copy_1 12 rfl rfl)
abbrev cX50_lessen : ByteArray := prog_64_method_35_code
def yX50_lessen : MethodName := ⟨RX50, "lessen", "(II)V"⟩
def dkwX50_lessen_3 : List UInt8 := [132, 5, 1, 167, 255, 186, 177]
abbrev dktX50_lessen_3 : List UInt8 := dkwX50_lessen_3 ++ []
def dkwX50_lessen_2 : List UInt8 := [10, 167, 0, 4, 9, 66, 42, 180, 0, 78, 16, 24, 27, 104, 21, 5, 96, 22, 6, 20, 0, 190, 127, 80]
abbrev dktX50_lessen_2 : List UInt8 := dkwX50_lessen_2 ++ dktX50_lessen_3
def dkwX50_lessen_1 : List UInt8 := [42, 180, 0, 78, 16, 24, 28, 104, 21, 5, 96, 47, 101, 33, 101, 55, 6, 22, 6, 9, 148, 156, 0, 7]
abbrev dktX50_lessen_1 : List UInt8 := dkwX50_lessen_1 ++ dktX50_lessen_2
def dkwX50_lessen_0 : List UInt8 := [9, 66, 3, 54, 5, 21, 5, 16, 24, 162, 0, 69, 42, 180, 0, 78, 16, 24, 27, 104, 21, 5, 96, 47]
abbrev dktX50_lessen_0 : List UInt8 := dkwX50_lessen_0 ++ dktX50_lessen_1
theorem dksX50_lessen_0 : cX50_lessen.data.toList.drop 0 = dktX50_lessen_0 := by decide +kernel
theorem dksX50_lessen_1 : cX50_lessen.data.toList.drop 24 = dktX50_lessen_1 := dk_seg dksX50_lessen_0 24 rfl rfl
theorem dksX50_lessen_2 : cX50_lessen.data.toList.drop 48 = dktX50_lessen_2 := dk_seg dksX50_lessen_1 24 rfl rfl
theorem dksX50_lessen_3 : cX50_lessen.data.toList.drop 72 = dktX50_lessen_3 := dk_seg dksX50_lessen_2 24 rfl rfl
theorem dX50_lessen_0 : decode cX50_lessen 0 = .ok (.lconst 0, 1) := dk_9 (dk_at dksX50_lessen_0 0 rfl rfl)
theorem dX50_lessen_1 : decode cX50_lessen 1 = .ok (.lstore_n 3, 1) := dk_66 (dk_at dksX50_lessen_0 1 rfl rfl)
theorem dX50_lessen_2 : decode cX50_lessen 2 = .ok (.iconst 0, 1) := dk_3 (dk_at dksX50_lessen_0 2 rfl rfl)
theorem dX50_lessen_3 : decode cX50_lessen 3 = .ok (.istore 5, 2) := dk_54 5 (dk_at dksX50_lessen_0 3 rfl rfl)
theorem dX50_lessen_5 : decode cX50_lessen 5 = .ok (.iload 5, 2) := dk_21 5 (dk_at dksX50_lessen_0 5 rfl rfl)
theorem dX50_lessen_7 : decode cX50_lessen 7 = .ok (.bipush 24, 2) := dk_16 24 (dk_at dksX50_lessen_0 7 rfl rfl)
theorem dX50_lessen_9 : decode cX50_lessen 9 = .ok (.if_icmp .ge 69, 3) := dk_162 0 69 (dk_at dksX50_lessen_0 9 rfl rfl)
theorem dX50_lessen_12 : decode cX50_lessen 12 = .ok (.aload_n 0, 1) := dk_42 (dk_at dksX50_lessen_0 12 rfl rfl)
theorem dX50_lessen_13 : decode cX50_lessen 13 = .ok (.getfield 78, 3) := dk_180 0 78 (dk_at dksX50_lessen_0 13 rfl rfl)
theorem dX50_lessen_16 : decode cX50_lessen 16 = .ok (.bipush 24, 2) := dk_16 24 (dk_at dksX50_lessen_0 16 rfl rfl)
theorem dX50_lessen_18 : decode cX50_lessen 18 = .ok (.iload_n 1, 1) := dk_27 (dk_at dksX50_lessen_0 18 rfl rfl)
theorem dX50_lessen_19 : decode cX50_lessen 19 = .ok (.imul, 1) := dk_104 (dk_at dksX50_lessen_0 19 rfl rfl)
theorem dX50_lessen_20 : decode cX50_lessen 20 = .ok (.iload 5, 2) := dk_21 5 (dk_at dksX50_lessen_0 20 rfl rfl)
theorem dX50_lessen_22 : decode cX50_lessen 22 = .ok (.iadd, 1) := dk_96 (dk_at dksX50_lessen_0 22 rfl rfl)
theorem dX50_lessen_23 : decode cX50_lessen 23 = .ok (.laload, 1) := dk_47 (dk_at dksX50_lessen_0 23 rfl rfl)
theorem dX50_lessen_24 : decode cX50_lessen 24 = .ok (.aload_n 0, 1) := dk_42 (dk_at dksX50_lessen_1 0 rfl rfl)
theorem dX50_lessen_25 : decode cX50_lessen 25 = .ok (.getfield 78, 3) := dk_180 0 78 (dk_at dksX50_lessen_1 1 rfl rfl)
theorem dX50_lessen_28 : decode cX50_lessen 28 = .ok (.bipush 24, 2) := dk_16 24 (dk_at dksX50_lessen_1 4 rfl rfl)
theorem dX50_lessen_30 : decode cX50_lessen 30 = .ok (.iload_n 2, 1) := dk_28 (dk_at dksX50_lessen_1 6 rfl rfl)
theorem dX50_lessen_31 : decode cX50_lessen 31 = .ok (.imul, 1) := dk_104 (dk_at dksX50_lessen_1 7 rfl rfl)
theorem dX50_lessen_32 : decode cX50_lessen 32 = .ok (.iload 5, 2) := dk_21 5 (dk_at dksX50_lessen_1 8 rfl rfl)
theorem dX50_lessen_34 : decode cX50_lessen 34 = .ok (.iadd, 1) := dk_96 (dk_at dksX50_lessen_1 10 rfl rfl)
theorem dX50_lessen_35 : decode cX50_lessen 35 = .ok (.laload, 1) := dk_47 (dk_at dksX50_lessen_1 11 rfl rfl)
theorem dX50_lessen_36 : decode cX50_lessen 36 = .ok (.lsub, 1) := dk_101 (dk_at dksX50_lessen_1 12 rfl rfl)
theorem dX50_lessen_37 : decode cX50_lessen 37 = .ok (.lload_n 3, 1) := dk_33 (dk_at dksX50_lessen_1 13 rfl rfl)
theorem dX50_lessen_38 : decode cX50_lessen 38 = .ok (.lsub, 1) := dk_101 (dk_at dksX50_lessen_1 14 rfl rfl)
theorem dX50_lessen_39 : decode cX50_lessen 39 = .ok (.lstore 6, 2) := dk_55 6 (dk_at dksX50_lessen_1 15 rfl rfl)
theorem dX50_lessen_41 : decode cX50_lessen 41 = .ok (.lload 6, 2) := dk_22 6 (dk_at dksX50_lessen_1 17 rfl rfl)
theorem dX50_lessen_43 : decode cX50_lessen 43 = .ok (.lconst 0, 1) := dk_9 (dk_at dksX50_lessen_1 19 rfl rfl)
theorem dX50_lessen_44 : decode cX50_lessen 44 = .ok (.lcmp, 1) := dk_148 (dk_at dksX50_lessen_1 20 rfl rfl)
theorem dX50_lessen_45 : decode cX50_lessen 45 = .ok (.ifCond .ge 7, 3) := dk_156 0 7 (dk_at dksX50_lessen_1 21 rfl rfl)
theorem dX50_lessen_48 : decode cX50_lessen 48 = .ok (.lconst 1, 1) := dk_10 (dk_at dksX50_lessen_2 0 rfl rfl)
theorem dX50_lessen_49 : decode cX50_lessen 49 = .ok (.goto 4, 3) := dk_167 0 4 (dk_at dksX50_lessen_2 1 rfl rfl)
theorem dX50_lessen_52 : decode cX50_lessen 52 = .ok (.lconst 0, 1) := dk_9 (dk_at dksX50_lessen_2 4 rfl rfl)
theorem dX50_lessen_53 : decode cX50_lessen 53 = .ok (.lstore_n 3, 1) := dk_66 (dk_at dksX50_lessen_2 5 rfl rfl)
theorem dX50_lessen_54 : decode cX50_lessen 54 = .ok (.aload_n 0, 1) := dk_42 (dk_at dksX50_lessen_2 6 rfl rfl)
theorem dX50_lessen_55 : decode cX50_lessen 55 = .ok (.getfield 78, 3) := dk_180 0 78 (dk_at dksX50_lessen_2 7 rfl rfl)
theorem dX50_lessen_58 : decode cX50_lessen 58 = .ok (.bipush 24, 2) := dk_16 24 (dk_at dksX50_lessen_2 10 rfl rfl)
theorem dX50_lessen_60 : decode cX50_lessen 60 = .ok (.iload_n 1, 1) := dk_27 (dk_at dksX50_lessen_2 12 rfl rfl)
theorem dX50_lessen_61 : decode cX50_lessen 61 = .ok (.imul, 1) := dk_104 (dk_at dksX50_lessen_2 13 rfl rfl)
theorem dX50_lessen_62 : decode cX50_lessen 62 = .ok (.iload 5, 2) := dk_21 5 (dk_at dksX50_lessen_2 14 rfl rfl)
theorem dX50_lessen_64 : decode cX50_lessen 64 = .ok (.iadd, 1) := dk_96 (dk_at dksX50_lessen_2 16 rfl rfl)
theorem dX50_lessen_65 : decode cX50_lessen 65 = .ok (.lload 6, 2) := dk_22 6 (dk_at dksX50_lessen_2 17 rfl rfl)
theorem dX50_lessen_67 : decode cX50_lessen 67 = .ok (.ldc2_w 190, 3) := dk_20 0 190 (dk_at dksX50_lessen_2 19 rfl rfl)
theorem dX50_lessen_70 : decode cX50_lessen 70 = .ok (.land, 1) := dk_127 (dk_at dksX50_lessen_2 22 rfl rfl)
theorem dX50_lessen_71 : decode cX50_lessen 71 = .ok (.lastore, 1) := dk_80 (dk_at dksX50_lessen_2 23 rfl rfl)
theorem dX50_lessen_72 : decode cX50_lessen 72 = .ok (.iinc 5 1, 3) := dk_132 5 1 (dk_at dksX50_lessen_3 0 rfl rfl)
theorem dX50_lessen_75 : decode cX50_lessen 75 = .ok (.goto (-70), 3) := dk_167 255 186 (dk_at dksX50_lessen_3 3 rfl rfl)
theorem dX50_lessen_78 : decode cX50_lessen 78 = .ok (.return_, 1) := dk_177 (dk_at dksX50_lessen_3 6 rfl rfl)
abbrev cX50_machine : ByteArray := prog_64_method_7_code
def yX50_machine : MethodName := ⟨RX50, "machine", "(I)I"⟩
def dkwX50_machine_2 : List UInt8 := [182, 0, 122, 42, 180, 0, 7, 3, 46, 4, 100, 172]
abbrev dktX50_machine_2 : List UInt8 := dkwX50_machine_2 ++ []
def dkwX50_machine_1 : List UInt8 := [180, 0, 16, 42, 180, 0, 7, 3, 46, 27, 79, 42, 180, 0, 7, 3, 92, 46, 4, 96, 79, 42]
abbrev dktX50_machine_1 : List UInt8 := dkwX50_machine_1 ++ dktX50_machine_2
def dkwX50_machine_0 : List UInt8 := [42, 180, 0, 7, 3, 46, 6, 159, 0, 13, 27, 4, 161, 0, 8, 27, 6, 164, 0, 5, 2, 172, 42]
abbrev dktX50_machine_0 : List UInt8 := dkwX50_machine_0 ++ dktX50_machine_1
theorem dksX50_machine_0 : cX50_machine.data.toList.drop 0 = dktX50_machine_0 := by decide +kernel
theorem dksX50_machine_1 : cX50_machine.data.toList.drop 23 = dktX50_machine_1 := dk_seg dksX50_machine_0 23 rfl rfl
theorem dksX50_machine_2 : cX50_machine.data.toList.drop 45 = dktX50_machine_2 := dk_seg dksX50_machine_1 22 rfl rfl
theorem dX50_machine_0 : decode cX50_machine 0 = .ok (.aload_n 0, 1) := dk_42 (dk_at dksX50_machine_0 0 rfl rfl)
theorem dX50_machine_1 : decode cX50_machine 1 = .ok (.getfield 7, 3) := dk_180 0 7 (dk_at dksX50_machine_0 1 rfl rfl)
theorem dX50_machine_4 : decode cX50_machine 4 = .ok (.iconst 0, 1) := dk_3 (dk_at dksX50_machine_0 4 rfl rfl)
theorem dX50_machine_5 : decode cX50_machine 5 = .ok (.iaload, 1) := dk_46 (dk_at dksX50_machine_0 5 rfl rfl)
theorem dX50_machine_6 : decode cX50_machine 6 = .ok (.iconst 3, 1) := dk_6 (dk_at dksX50_machine_0 6 rfl rfl)
theorem dX50_machine_7 : decode cX50_machine 7 = .ok (.if_icmp .eq 13, 3) := dk_159 0 13 (dk_at dksX50_machine_0 7 rfl rfl)
theorem dX50_machine_10 : decode cX50_machine 10 = .ok (.iload_n 1, 1) := dk_27 (dk_at dksX50_machine_0 10 rfl rfl)
theorem dX50_machine_11 : decode cX50_machine 11 = .ok (.iconst 1, 1) := dk_4 (dk_at dksX50_machine_0 11 rfl rfl)
theorem dX50_machine_12 : decode cX50_machine 12 = .ok (.if_icmp .lt 8, 3) := dk_161 0 8 (dk_at dksX50_machine_0 12 rfl rfl)
theorem dX50_machine_15 : decode cX50_machine 15 = .ok (.iload_n 1, 1) := dk_27 (dk_at dksX50_machine_0 15 rfl rfl)
theorem dX50_machine_16 : decode cX50_machine 16 = .ok (.iconst 3, 1) := dk_6 (dk_at dksX50_machine_0 16 rfl rfl)
theorem dX50_machine_17 : decode cX50_machine 17 = .ok (.if_icmp .le 5, 3) := dk_164 0 5 (dk_at dksX50_machine_0 17 rfl rfl)
theorem dX50_machine_20 : decode cX50_machine 20 = .ok (.iconst (-1), 1) := dk_2 (dk_at dksX50_machine_0 20 rfl rfl)
theorem dX50_machine_21 : decode cX50_machine 21 = .ok (.ireturn, 1) := dk_172 (dk_at dksX50_machine_0 21 rfl rfl)
theorem dX50_machine_22 : decode cX50_machine 22 = .ok (.aload_n 0, 1) := dk_42 (dk_at dksX50_machine_0 22 rfl rfl)
theorem dX50_machine_23 : decode cX50_machine 23 = .ok (.getfield 16, 3) := dk_180 0 16 (dk_at dksX50_machine_1 0 rfl rfl)
theorem dX50_machine_26 : decode cX50_machine 26 = .ok (.aload_n 0, 1) := dk_42 (dk_at dksX50_machine_1 3 rfl rfl)
theorem dX50_machine_27 : decode cX50_machine 27 = .ok (.getfield 7, 3) := dk_180 0 7 (dk_at dksX50_machine_1 4 rfl rfl)
theorem dX50_machine_30 : decode cX50_machine 30 = .ok (.iconst 0, 1) := dk_3 (dk_at dksX50_machine_1 7 rfl rfl)
theorem dX50_machine_31 : decode cX50_machine 31 = .ok (.iaload, 1) := dk_46 (dk_at dksX50_machine_1 8 rfl rfl)
theorem dX50_machine_32 : decode cX50_machine 32 = .ok (.iload_n 1, 1) := dk_27 (dk_at dksX50_machine_1 9 rfl rfl)
theorem dX50_machine_33 : decode cX50_machine 33 = .ok (.iastore, 1) := dk_79 (dk_at dksX50_machine_1 10 rfl rfl)
theorem dX50_machine_34 : decode cX50_machine 34 = .ok (.aload_n 0, 1) := dk_42 (dk_at dksX50_machine_1 11 rfl rfl)
theorem dX50_machine_35 : decode cX50_machine 35 = .ok (.getfield 7, 3) := dk_180 0 7 (dk_at dksX50_machine_1 12 rfl rfl)
theorem dX50_machine_38 : decode cX50_machine 38 = .ok (.iconst 0, 1) := dk_3 (dk_at dksX50_machine_1 15 rfl rfl)
theorem dX50_machine_39 : decode cX50_machine 39 = .ok (.dup2, 1) := dk_92 (dk_at dksX50_machine_1 16 rfl rfl)
theorem dX50_machine_40 : decode cX50_machine 40 = .ok (.iaload, 1) := dk_46 (dk_at dksX50_machine_1 17 rfl rfl)
theorem dX50_machine_41 : decode cX50_machine 41 = .ok (.iconst 1, 1) := dk_4 (dk_at dksX50_machine_1 18 rfl rfl)
theorem dX50_machine_42 : decode cX50_machine 42 = .ok (.iadd, 1) := dk_96 (dk_at dksX50_machine_1 19 rfl rfl)
theorem dX50_machine_43 : decode cX50_machine 43 = .ok (.iastore, 1) := dk_79 (dk_at dksX50_machine_1 20 rfl rfl)
theorem dX50_machine_44 : decode cX50_machine 44 = .ok (.aload_n 0, 1) := dk_42 (dk_at dksX50_machine_1 21 rfl rfl)
theorem dX50_machine_45 : decode cX50_machine 45 = .ok (.invokevirtual 122, 3) := dk_182 0 122 (dk_at dksX50_machine_2 0 rfl rfl)
theorem dX50_machine_48 : decode cX50_machine 48 = .ok (.aload_n 0, 1) := dk_42 (dk_at dksX50_machine_2 3 rfl rfl)
theorem dX50_machine_49 : decode cX50_machine 49 = .ok (.getfield 7, 3) := dk_180 0 7 (dk_at dksX50_machine_2 4 rfl rfl)
theorem dX50_machine_52 : decode cX50_machine 52 = .ok (.iconst 0, 1) := dk_3 (dk_at dksX50_machine_2 7 rfl rfl)
theorem dX50_machine_53 : decode cX50_machine 53 = .ok (.iaload, 1) := dk_46 (dk_at dksX50_machine_2 8 rfl rfl)
theorem dX50_machine_54 : decode cX50_machine 54 = .ok (.iconst 1, 1) := dk_4 (dk_at dksX50_machine_2 9 rfl rfl)
theorem dX50_machine_55 : decode cX50_machine 55 = .ok (.isub, 1) := dk_100 (dk_at dksX50_machine_2 10 rfl rfl)
theorem dX50_machine_56 : decode cX50_machine 56 = .ok (.ireturn, 1) := dk_172 (dk_at dksX50_machine_2 11 rfl rfl)
abbrev cX50_port : ByteArray := prog_64_method_8_code
def yX50_port : MethodName := ⟨RX50, "port", "()I"⟩
def dkwX50_port_1 : List UInt8 := [182, 0, 122, 42, 180, 0, 13, 3, 46, 4, 100, 172]
abbrev dktX50_port_1 : List UInt8 := dkwX50_port_1 ++ []
def dkwX50_port_0 : List UInt8 := [42, 180, 0, 13, 3, 46, 6, 160, 0, 5, 2, 172, 42, 180, 0, 13, 3, 92, 46, 4, 96, 79, 42]
abbrev dktX50_port_0 : List UInt8 := dkwX50_port_0 ++ dktX50_port_1
theorem dksX50_port_0 : cX50_port.data.toList.drop 0 = dktX50_port_0 := by decide +kernel
theorem dksX50_port_1 : cX50_port.data.toList.drop 23 = dktX50_port_1 := dk_seg dksX50_port_0 23 rfl rfl
theorem dX50_port_0 : decode cX50_port 0 = .ok (.aload_n 0, 1) := dk_42 (dk_at dksX50_port_0 0 rfl rfl)
theorem dX50_port_1 : decode cX50_port 1 = .ok (.getfield 13, 3) := dk_180 0 13 (dk_at dksX50_port_0 1 rfl rfl)
theorem dX50_port_4 : decode cX50_port 4 = .ok (.iconst 0, 1) := dk_3 (dk_at dksX50_port_0 4 rfl rfl)
theorem dX50_port_5 : decode cX50_port 5 = .ok (.iaload, 1) := dk_46 (dk_at dksX50_port_0 5 rfl rfl)
theorem dX50_port_6 : decode cX50_port 6 = .ok (.iconst 3, 1) := dk_6 (dk_at dksX50_port_0 6 rfl rfl)
theorem dX50_port_7 : decode cX50_port 7 = .ok (.if_icmp .ne 5, 3) := dk_160 0 5 (dk_at dksX50_port_0 7 rfl rfl)
theorem dX50_port_10 : decode cX50_port 10 = .ok (.iconst (-1), 1) := dk_2 (dk_at dksX50_port_0 10 rfl rfl)
theorem dX50_port_11 : decode cX50_port 11 = .ok (.ireturn, 1) := dk_172 (dk_at dksX50_port_0 11 rfl rfl)
theorem dX50_port_12 : decode cX50_port 12 = .ok (.aload_n 0, 1) := dk_42 (dk_at dksX50_port_0 12 rfl rfl)
theorem dX50_port_13 : decode cX50_port 13 = .ok (.getfield 13, 3) := dk_180 0 13 (dk_at dksX50_port_0 13 rfl rfl)
theorem dX50_port_16 : decode cX50_port 16 = .ok (.iconst 0, 1) := dk_3 (dk_at dksX50_port_0 16 rfl rfl)
theorem dX50_port_17 : decode cX50_port 17 = .ok (.dup2, 1) := dk_92 (dk_at dksX50_port_0 17 rfl rfl)
theorem dX50_port_18 : decode cX50_port 18 = .ok (.iaload, 1) := dk_46 (dk_at dksX50_port_0 18 rfl rfl)
theorem dX50_port_19 : decode cX50_port 19 = .ok (.iconst 1, 1) := dk_4 (dk_at dksX50_port_0 19 rfl rfl)
theorem dX50_port_20 : decode cX50_port 20 = .ok (.iadd, 1) := dk_96 (dk_at dksX50_port_0 20 rfl rfl)
theorem dX50_port_21 : decode cX50_port 21 = .ok (.iastore, 1) := dk_79 (dk_at dksX50_port_0 21 rfl rfl)
theorem dX50_port_22 : decode cX50_port 22 = .ok (.aload_n 0, 1) := dk_42 (dk_at dksX50_port_0 22 rfl rfl)
theorem dX50_port_23 : decode cX50_port 23 = .ok (.invokevirtual 122, 3) := dk_182 0 122 (dk_at dksX50_port_1 0 rfl rfl)
theorem dX50_port_26 : decode cX50_port 26 = .ok (.aload_n 0, 1) := dk_42 (dk_at dksX50_port_1 3 rfl rfl)
theorem dX50_port_27 : decode cX50_port 27 = .ok (.getfield 13, 3) := dk_180 0 13 (dk_at dksX50_port_1 4 rfl rfl)
theorem dX50_port_30 : decode cX50_port 30 = .ok (.iconst 0, 1) := dk_3 (dk_at dksX50_port_1 7 rfl rfl)
theorem dX50_port_31 : decode cX50_port 31 = .ok (.iaload, 1) := dk_46 (dk_at dksX50_port_1 8 rfl rfl)
theorem dX50_port_32 : decode cX50_port 32 = .ok (.iconst 1, 1) := dk_4 (dk_at dksX50_port_1 9 rfl rfl)
theorem dX50_port_33 : decode cX50_port 33 = .ok (.isub, 1) := dk_100 (dk_at dksX50_port_1 10 rfl rfl)
theorem dX50_port_34 : decode cX50_port 34 = .ok (.ireturn, 1) := dk_172 (dk_at dksX50_port_1 11 rfl rfl)
abbrev cX50_joinOut : ByteArray := prog_64_method_10_code
def yX50_joinOut : MethodName := ⟨RX50, "joinOut", "(III)Z"⟩
def dkwX50_joinOut_3 : List UInt8 := [29, 79, 42, 182, 0, 122, 4, 172]
abbrev dktX50_joinOut_3 : List UInt8 := dkwX50_joinOut_3 ++ []
def dkwX50_joinOut_2 : List UInt8 := [27, 28, 182, 0, 129, 153, 0, 8, 21, 4, 154, 0, 5, 3, 172, 42, 180, 0, 19, 6, 27, 104, 28, 96]
abbrev dktX50_joinOut_2 : List UInt8 := dkwX50_joinOut_2 ++ dktX50_joinOut_3
def dkwX50_joinOut_1 : List UInt8 := [163, 0, 20, 29, 16, 254, 42, 180, 0, 13, 3, 46, 100, 164, 0, 7, 4, 167, 0, 4, 3, 54, 4, 42]
abbrev dktX50_joinOut_1 : List UInt8 := dkwX50_joinOut_1 ++ dktX50_joinOut_2
def dkwX50_joinOut_0 : List UInt8 := [29, 2, 159, 0, 36, 29, 155, 0, 13, 29, 42, 180, 0, 7, 3, 46, 161, 0, 22, 29, 16, 254]
abbrev dktX50_joinOut_0 : List UInt8 := dkwX50_joinOut_0 ++ dktX50_joinOut_1
theorem dksX50_joinOut_0 : cX50_joinOut.data.toList.drop 0 = dktX50_joinOut_0 := by decide +kernel
theorem dksX50_joinOut_1 : cX50_joinOut.data.toList.drop 22 = dktX50_joinOut_1 := dk_seg dksX50_joinOut_0 22 rfl rfl
theorem dksX50_joinOut_2 : cX50_joinOut.data.toList.drop 46 = dktX50_joinOut_2 := dk_seg dksX50_joinOut_1 24 rfl rfl
theorem dksX50_joinOut_3 : cX50_joinOut.data.toList.drop 70 = dktX50_joinOut_3 := dk_seg dksX50_joinOut_2 24 rfl rfl
theorem dX50_joinOut_0 : decode cX50_joinOut 0 = .ok (.iload_n 3, 1) := dk_29 (dk_at dksX50_joinOut_0 0 rfl rfl)
theorem dX50_joinOut_1 : decode cX50_joinOut 1 = .ok (.iconst (-1), 1) := dk_2 (dk_at dksX50_joinOut_0 1 rfl rfl)
theorem dX50_joinOut_2 : decode cX50_joinOut 2 = .ok (.if_icmp .eq 36, 3) := dk_159 0 36 (dk_at dksX50_joinOut_0 2 rfl rfl)
theorem dX50_joinOut_5 : decode cX50_joinOut 5 = .ok (.iload_n 3, 1) := dk_29 (dk_at dksX50_joinOut_0 5 rfl rfl)
theorem dX50_joinOut_6 : decode cX50_joinOut 6 = .ok (.ifCond .lt 13, 3) := dk_155 0 13 (dk_at dksX50_joinOut_0 6 rfl rfl)
theorem dX50_joinOut_9 : decode cX50_joinOut 9 = .ok (.iload_n 3, 1) := dk_29 (dk_at dksX50_joinOut_0 9 rfl rfl)
theorem dX50_joinOut_10 : decode cX50_joinOut 10 = .ok (.aload_n 0, 1) := dk_42 (dk_at dksX50_joinOut_0 10 rfl rfl)
theorem dX50_joinOut_11 : decode cX50_joinOut 11 = .ok (.getfield 7, 3) := dk_180 0 7 (dk_at dksX50_joinOut_0 11 rfl rfl)
theorem dX50_joinOut_14 : decode cX50_joinOut 14 = .ok (.iconst 0, 1) := dk_3 (dk_at dksX50_joinOut_0 14 rfl rfl)
theorem dX50_joinOut_15 : decode cX50_joinOut 15 = .ok (.iaload, 1) := dk_46 (dk_at dksX50_joinOut_0 15 rfl rfl)
theorem dX50_joinOut_16 : decode cX50_joinOut 16 = .ok (.if_icmp .lt 22, 3) := dk_161 0 22 (dk_at dksX50_joinOut_0 16 rfl rfl)
theorem dX50_joinOut_19 : decode cX50_joinOut 19 = .ok (.iload_n 3, 1) := dk_29 (dk_at dksX50_joinOut_0 19 rfl rfl)
theorem dX50_joinOut_20 : decode cX50_joinOut 20 = .ok (.bipush (-2), 2) := dk_16 254 (dk_at dksX50_joinOut_0 20 rfl rfl)
theorem dX50_joinOut_22 : decode cX50_joinOut 22 = .ok (.if_icmp .gt 20, 3) := dk_163 0 20 (dk_at dksX50_joinOut_1 0 rfl rfl)
theorem dX50_joinOut_25 : decode cX50_joinOut 25 = .ok (.iload_n 3, 1) := dk_29 (dk_at dksX50_joinOut_1 3 rfl rfl)
theorem dX50_joinOut_26 : decode cX50_joinOut 26 = .ok (.bipush (-2), 2) := dk_16 254 (dk_at dksX50_joinOut_1 4 rfl rfl)
theorem dX50_joinOut_28 : decode cX50_joinOut 28 = .ok (.aload_n 0, 1) := dk_42 (dk_at dksX50_joinOut_1 6 rfl rfl)
theorem dX50_joinOut_29 : decode cX50_joinOut 29 = .ok (.getfield 13, 3) := dk_180 0 13 (dk_at dksX50_joinOut_1 7 rfl rfl)
theorem dX50_joinOut_32 : decode cX50_joinOut 32 = .ok (.iconst 0, 1) := dk_3 (dk_at dksX50_joinOut_1 10 rfl rfl)
theorem dX50_joinOut_33 : decode cX50_joinOut 33 = .ok (.iaload, 1) := dk_46 (dk_at dksX50_joinOut_1 11 rfl rfl)
theorem dX50_joinOut_34 : decode cX50_joinOut 34 = .ok (.isub, 1) := dk_100 (dk_at dksX50_joinOut_1 12 rfl rfl)
theorem dX50_joinOut_35 : decode cX50_joinOut 35 = .ok (.if_icmp .le 7, 3) := dk_164 0 7 (dk_at dksX50_joinOut_1 13 rfl rfl)
theorem dX50_joinOut_38 : decode cX50_joinOut 38 = .ok (.iconst 1, 1) := dk_4 (dk_at dksX50_joinOut_1 16 rfl rfl)
theorem dX50_joinOut_39 : decode cX50_joinOut 39 = .ok (.goto 4, 3) := dk_167 0 4 (dk_at dksX50_joinOut_1 17 rfl rfl)
theorem dX50_joinOut_42 : decode cX50_joinOut 42 = .ok (.iconst 0, 1) := dk_3 (dk_at dksX50_joinOut_1 20 rfl rfl)
theorem dX50_joinOut_43 : decode cX50_joinOut 43 = .ok (.istore 4, 2) := dk_54 4 (dk_at dksX50_joinOut_1 21 rfl rfl)
theorem dX50_joinOut_45 : decode cX50_joinOut 45 = .ok (.aload_n 0, 1) := dk_42 (dk_at dksX50_joinOut_1 23 rfl rfl)
theorem dX50_joinOut_46 : decode cX50_joinOut 46 = .ok (.iload_n 1, 1) := dk_27 (dk_at dksX50_joinOut_2 0 rfl rfl)
theorem dX50_joinOut_47 : decode cX50_joinOut 47 = .ok (.iload_n 2, 1) := dk_28 (dk_at dksX50_joinOut_2 1 rfl rfl)
theorem dX50_joinOut_48 : decode cX50_joinOut 48 = .ok (.invokevirtual 129, 3) := dk_182 0 129 (dk_at dksX50_joinOut_2 2 rfl rfl)
theorem dX50_joinOut_51 : decode cX50_joinOut 51 = .ok (.ifCond .eq 8, 3) := dk_153 0 8 (dk_at dksX50_joinOut_2 5 rfl rfl)
theorem dX50_joinOut_54 : decode cX50_joinOut 54 = .ok (.iload 4, 2) := dk_21 4 (dk_at dksX50_joinOut_2 8 rfl rfl)
theorem dX50_joinOut_56 : decode cX50_joinOut 56 = .ok (.ifCond .ne 5, 3) := dk_154 0 5 (dk_at dksX50_joinOut_2 10 rfl rfl)
theorem dX50_joinOut_59 : decode cX50_joinOut 59 = .ok (.iconst 0, 1) := dk_3 (dk_at dksX50_joinOut_2 13 rfl rfl)
theorem dX50_joinOut_60 : decode cX50_joinOut 60 = .ok (.ireturn, 1) := dk_172 (dk_at dksX50_joinOut_2 14 rfl rfl)
theorem dX50_joinOut_61 : decode cX50_joinOut 61 = .ok (.aload_n 0, 1) := dk_42 (dk_at dksX50_joinOut_2 15 rfl rfl)
theorem dX50_joinOut_62 : decode cX50_joinOut 62 = .ok (.getfield 19, 3) := dk_180 0 19 (dk_at dksX50_joinOut_2 16 rfl rfl)
theorem dX50_joinOut_65 : decode cX50_joinOut 65 = .ok (.iconst 3, 1) := dk_6 (dk_at dksX50_joinOut_2 19 rfl rfl)
theorem dX50_joinOut_66 : decode cX50_joinOut 66 = .ok (.iload_n 1, 1) := dk_27 (dk_at dksX50_joinOut_2 20 rfl rfl)
theorem dX50_joinOut_67 : decode cX50_joinOut 67 = .ok (.imul, 1) := dk_104 (dk_at dksX50_joinOut_2 21 rfl rfl)
theorem dX50_joinOut_68 : decode cX50_joinOut 68 = .ok (.iload_n 2, 1) := dk_28 (dk_at dksX50_joinOut_2 22 rfl rfl)
theorem dX50_joinOut_69 : decode cX50_joinOut 69 = .ok (.iadd, 1) := dk_96 (dk_at dksX50_joinOut_2 23 rfl rfl)
theorem dX50_joinOut_70 : decode cX50_joinOut 70 = .ok (.iload_n 3, 1) := dk_29 (dk_at dksX50_joinOut_3 0 rfl rfl)
theorem dX50_joinOut_71 : decode cX50_joinOut 71 = .ok (.iastore, 1) := dk_79 (dk_at dksX50_joinOut_3 1 rfl rfl)
theorem dX50_joinOut_72 : decode cX50_joinOut 72 = .ok (.aload_n 0, 1) := dk_42 (dk_at dksX50_joinOut_3 2 rfl rfl)
theorem dX50_joinOut_73 : decode cX50_joinOut 73 = .ok (.invokevirtual 122, 3) := dk_182 0 122 (dk_at dksX50_joinOut_3 3 rfl rfl)
theorem dX50_joinOut_76 : decode cX50_joinOut 76 = .ok (.iconst 1, 1) := dk_4 (dk_at dksX50_joinOut_3 6 rfl rfl)
theorem dX50_joinOut_77 : decode cX50_joinOut 77 = .ok (.ireturn, 1) := dk_172 (dk_at dksX50_joinOut_3 7 rfl rfl)
abbrev cX50_isOut : ByteArray := prog_64_method_9_code
def yX50_isOut : MethodName := ⟨RX50, "isOut", "(II)Z"⟩
def dkwX50_isOut_1 : List UInt8 := [167, 0, 4, 3, 172]
abbrev dktX50_isOut_1 : List UInt8 := dkwX50_isOut_1 ++ []
def dkwX50_isOut_0 : List UInt8 := [42, 27, 182, 0, 125, 153, 0, 21, 28, 155, 0, 17, 28, 42, 180, 0, 16, 27, 46, 162, 0, 7, 4]
abbrev dktX50_isOut_0 : List UInt8 := dkwX50_isOut_0 ++ dktX50_isOut_1
theorem dksX50_isOut_0 : cX50_isOut.data.toList.drop 0 = dktX50_isOut_0 := by decide +kernel
theorem dksX50_isOut_1 : cX50_isOut.data.toList.drop 23 = dktX50_isOut_1 := dk_seg dksX50_isOut_0 23 rfl rfl
theorem dX50_isOut_0 : decode cX50_isOut 0 = .ok (.aload_n 0, 1) := dk_42 (dk_at dksX50_isOut_0 0 rfl rfl)
theorem dX50_isOut_1 : decode cX50_isOut 1 = .ok (.iload_n 1, 1) := dk_27 (dk_at dksX50_isOut_0 1 rfl rfl)
theorem dX50_isOut_2 : decode cX50_isOut 2 = .ok (.invokevirtual 125, 3) := dk_182 0 125 (dk_at dksX50_isOut_0 2 rfl rfl)
theorem dX50_isOut_5 : decode cX50_isOut 5 = .ok (.ifCond .eq 21, 3) := dk_153 0 21 (dk_at dksX50_isOut_0 5 rfl rfl)
theorem dX50_isOut_8 : decode cX50_isOut 8 = .ok (.iload_n 2, 1) := dk_28 (dk_at dksX50_isOut_0 8 rfl rfl)
theorem dX50_isOut_9 : decode cX50_isOut 9 = .ok (.ifCond .lt 17, 3) := dk_155 0 17 (dk_at dksX50_isOut_0 9 rfl rfl)
theorem dX50_isOut_12 : decode cX50_isOut 12 = .ok (.iload_n 2, 1) := dk_28 (dk_at dksX50_isOut_0 12 rfl rfl)
theorem dX50_isOut_13 : decode cX50_isOut 13 = .ok (.aload_n 0, 1) := dk_42 (dk_at dksX50_isOut_0 13 rfl rfl)
theorem dX50_isOut_14 : decode cX50_isOut 14 = .ok (.getfield 16, 3) := dk_180 0 16 (dk_at dksX50_isOut_0 14 rfl rfl)
theorem dX50_isOut_17 : decode cX50_isOut 17 = .ok (.iload_n 1, 1) := dk_27 (dk_at dksX50_isOut_0 17 rfl rfl)
theorem dX50_isOut_18 : decode cX50_isOut 18 = .ok (.iaload, 1) := dk_46 (dk_at dksX50_isOut_0 18 rfl rfl)
theorem dX50_isOut_19 : decode cX50_isOut 19 = .ok (.if_icmp .ge 7, 3) := dk_162 0 7 (dk_at dksX50_isOut_0 19 rfl rfl)
theorem dX50_isOut_22 : decode cX50_isOut 22 = .ok (.iconst 1, 1) := dk_4 (dk_at dksX50_isOut_0 22 rfl rfl)
theorem dX50_isOut_23 : decode cX50_isOut 23 = .ok (.goto 4, 3) := dk_167 0 4 (dk_at dksX50_isOut_1 0 rfl rfl)
theorem dX50_isOut_26 : decode cX50_isOut 26 = .ok (.iconst 0, 1) := dk_3 (dk_at dksX50_isOut_1 3 rfl rfl)
theorem dX50_isOut_27 : decode cX50_isOut 27 = .ok (.ireturn, 1) := dk_172 (dk_at dksX50_isOut_1 4 rfl rfl)
abbrev cX50_share : ByteArray := prog_64_method_13_code
def yX50_share : MethodName := ⟨RX50, "share", "(IIIJJ)Z"⟩
def dkwX50_share_3 : List UInt8 := [182, 0, 122, 4, 172]
abbrev dktX50_share_3 : List UInt8 := dkwX50_share_3 ++ []
def dkwX50_share_2 : List UInt8 := [96, 22, 4, 136, 79, 42, 180, 0, 25, 5, 6, 27, 104, 28, 96, 104, 29, 96, 22, 6, 136, 79, 42]
abbrev dktX50_share_2 : List UInt8 := dkwX50_share_2 ++ dktX50_share_3
def dkwX50_share_1 : List UInt8 := [22, 4, 22, 6, 182, 0, 144, 154, 0, 5, 3, 172, 42, 180, 0, 22, 5, 6, 27, 104, 28, 96, 104, 29]
abbrev dktX50_share_1 : List UInt8 := dkwX50_share_1 ++ dktX50_share_2
def dkwX50_share_0 : List UInt8 := [42, 27, 28, 29, 182, 0, 136, 153, 0, 27, 22, 4, 22, 6, 184, 0, 140, 153, 0, 17, 42, 27, 28, 29]
abbrev dktX50_share_0 : List UInt8 := dkwX50_share_0 ++ dktX50_share_1
theorem dksX50_share_0 : cX50_share.data.toList.drop 0 = dktX50_share_0 := by decide +kernel
theorem dksX50_share_1 : cX50_share.data.toList.drop 24 = dktX50_share_1 := dk_seg dksX50_share_0 24 rfl rfl
theorem dksX50_share_2 : cX50_share.data.toList.drop 48 = dktX50_share_2 := dk_seg dksX50_share_1 24 rfl rfl
theorem dksX50_share_3 : cX50_share.data.toList.drop 71 = dktX50_share_3 := dk_seg dksX50_share_2 23 rfl rfl
theorem dX50_share_0 : decode cX50_share 0 = .ok (.aload_n 0, 1) := dk_42 (dk_at dksX50_share_0 0 rfl rfl)
theorem dX50_share_1 : decode cX50_share 1 = .ok (.iload_n 1, 1) := dk_27 (dk_at dksX50_share_0 1 rfl rfl)
theorem dX50_share_2 : decode cX50_share 2 = .ok (.iload_n 2, 1) := dk_28 (dk_at dksX50_share_0 2 rfl rfl)
theorem dX50_share_3 : decode cX50_share 3 = .ok (.iload_n 3, 1) := dk_29 (dk_at dksX50_share_0 3 rfl rfl)
theorem dX50_share_4 : decode cX50_share 4 = .ok (.invokevirtual 136, 3) := dk_182 0 136 (dk_at dksX50_share_0 4 rfl rfl)
theorem dX50_share_7 : decode cX50_share 7 = .ok (.ifCond .eq 27, 3) := dk_153 0 27 (dk_at dksX50_share_0 7 rfl rfl)
theorem dX50_share_10 : decode cX50_share 10 = .ok (.lload 4, 2) := dk_22 4 (dk_at dksX50_share_0 10 rfl rfl)
theorem dX50_share_12 : decode cX50_share 12 = .ok (.lload 6, 2) := dk_22 6 (dk_at dksX50_share_0 12 rfl rfl)
theorem dX50_share_14 : decode cX50_share 14 = .ok (.invokestatic 140, 3) := dk_184 0 140 (dk_at dksX50_share_0 14 rfl rfl)
theorem dX50_share_17 : decode cX50_share 17 = .ok (.ifCond .eq 17, 3) := dk_153 0 17 (dk_at dksX50_share_0 17 rfl rfl)
theorem dX50_share_20 : decode cX50_share 20 = .ok (.aload_n 0, 1) := dk_42 (dk_at dksX50_share_0 20 rfl rfl)
theorem dX50_share_21 : decode cX50_share 21 = .ok (.iload_n 1, 1) := dk_27 (dk_at dksX50_share_0 21 rfl rfl)
theorem dX50_share_22 : decode cX50_share 22 = .ok (.iload_n 2, 1) := dk_28 (dk_at dksX50_share_0 22 rfl rfl)
theorem dX50_share_23 : decode cX50_share 23 = .ok (.iload_n 3, 1) := dk_29 (dk_at dksX50_share_0 23 rfl rfl)
theorem dX50_share_24 : decode cX50_share 24 = .ok (.lload 4, 2) := dk_22 4 (dk_at dksX50_share_1 0 rfl rfl)
theorem dX50_share_26 : decode cX50_share 26 = .ok (.lload 6, 2) := dk_22 6 (dk_at dksX50_share_1 2 rfl rfl)
theorem dX50_share_28 : decode cX50_share 28 = .ok (.invokevirtual 144, 3) := dk_182 0 144 (dk_at dksX50_share_1 4 rfl rfl)
theorem dX50_share_31 : decode cX50_share 31 = .ok (.ifCond .ne 5, 3) := dk_154 0 5 (dk_at dksX50_share_1 7 rfl rfl)
theorem dX50_share_34 : decode cX50_share 34 = .ok (.iconst 0, 1) := dk_3 (dk_at dksX50_share_1 10 rfl rfl)
theorem dX50_share_35 : decode cX50_share 35 = .ok (.ireturn, 1) := dk_172 (dk_at dksX50_share_1 11 rfl rfl)
theorem dX50_share_36 : decode cX50_share 36 = .ok (.aload_n 0, 1) := dk_42 (dk_at dksX50_share_1 12 rfl rfl)
theorem dX50_share_37 : decode cX50_share 37 = .ok (.getfield 22, 3) := dk_180 0 22 (dk_at dksX50_share_1 13 rfl rfl)
theorem dX50_share_40 : decode cX50_share 40 = .ok (.iconst 2, 1) := dk_5 (dk_at dksX50_share_1 16 rfl rfl)
theorem dX50_share_41 : decode cX50_share 41 = .ok (.iconst 3, 1) := dk_6 (dk_at dksX50_share_1 17 rfl rfl)
theorem dX50_share_42 : decode cX50_share 42 = .ok (.iload_n 1, 1) := dk_27 (dk_at dksX50_share_1 18 rfl rfl)
theorem dX50_share_43 : decode cX50_share 43 = .ok (.imul, 1) := dk_104 (dk_at dksX50_share_1 19 rfl rfl)
theorem dX50_share_44 : decode cX50_share 44 = .ok (.iload_n 2, 1) := dk_28 (dk_at dksX50_share_1 20 rfl rfl)
theorem dX50_share_45 : decode cX50_share 45 = .ok (.iadd, 1) := dk_96 (dk_at dksX50_share_1 21 rfl rfl)
theorem dX50_share_46 : decode cX50_share 46 = .ok (.imul, 1) := dk_104 (dk_at dksX50_share_1 22 rfl rfl)
theorem dX50_share_47 : decode cX50_share 47 = .ok (.iload_n 3, 1) := dk_29 (dk_at dksX50_share_1 23 rfl rfl)
theorem dX50_share_48 : decode cX50_share 48 = .ok (.iadd, 1) := dk_96 (dk_at dksX50_share_2 0 rfl rfl)
theorem dX50_share_49 : decode cX50_share 49 = .ok (.lload 4, 2) := dk_22 4 (dk_at dksX50_share_2 1 rfl rfl)
theorem dX50_share_51 : decode cX50_share 51 = .ok (.l2i, 1) := dk_136 (dk_at dksX50_share_2 3 rfl rfl)
theorem dX50_share_52 : decode cX50_share 52 = .ok (.iastore, 1) := dk_79 (dk_at dksX50_share_2 4 rfl rfl)
theorem dX50_share_53 : decode cX50_share 53 = .ok (.aload_n 0, 1) := dk_42 (dk_at dksX50_share_2 5 rfl rfl)
theorem dX50_share_54 : decode cX50_share 54 = .ok (.getfield 25, 3) := dk_180 0 25 (dk_at dksX50_share_2 6 rfl rfl)
theorem dX50_share_57 : decode cX50_share 57 = .ok (.iconst 2, 1) := dk_5 (dk_at dksX50_share_2 9 rfl rfl)
theorem dX50_share_58 : decode cX50_share 58 = .ok (.iconst 3, 1) := dk_6 (dk_at dksX50_share_2 10 rfl rfl)
theorem dX50_share_59 : decode cX50_share 59 = .ok (.iload_n 1, 1) := dk_27 (dk_at dksX50_share_2 11 rfl rfl)
theorem dX50_share_60 : decode cX50_share 60 = .ok (.imul, 1) := dk_104 (dk_at dksX50_share_2 12 rfl rfl)
theorem dX50_share_61 : decode cX50_share 61 = .ok (.iload_n 2, 1) := dk_28 (dk_at dksX50_share_2 13 rfl rfl)
theorem dX50_share_62 : decode cX50_share 62 = .ok (.iadd, 1) := dk_96 (dk_at dksX50_share_2 14 rfl rfl)
theorem dX50_share_63 : decode cX50_share 63 = .ok (.imul, 1) := dk_104 (dk_at dksX50_share_2 15 rfl rfl)
theorem dX50_share_64 : decode cX50_share 64 = .ok (.iload_n 3, 1) := dk_29 (dk_at dksX50_share_2 16 rfl rfl)
theorem dX50_share_65 : decode cX50_share 65 = .ok (.iadd, 1) := dk_96 (dk_at dksX50_share_2 17 rfl rfl)
theorem dX50_share_66 : decode cX50_share 66 = .ok (.lload 6, 2) := dk_22 6 (dk_at dksX50_share_2 18 rfl rfl)
theorem dX50_share_68 : decode cX50_share 68 = .ok (.l2i, 1) := dk_136 (dk_at dksX50_share_2 20 rfl rfl)
theorem dX50_share_69 : decode cX50_share 69 = .ok (.iastore, 1) := dk_79 (dk_at dksX50_share_2 21 rfl rfl)
theorem dX50_share_70 : decode cX50_share 70 = .ok (.aload_n 0, 1) := dk_42 (dk_at dksX50_share_2 22 rfl rfl)
theorem dX50_share_71 : decode cX50_share 71 = .ok (.invokevirtual 122, 3) := dk_182 0 122 (dk_at dksX50_share_3 0 rfl rfl)
theorem dX50_share_74 : decode cX50_share 74 = .ok (.iconst 1, 1) := dk_4 (dk_at dksX50_share_3 3 rfl rfl)
theorem dX50_share_75 : decode cX50_share 75 = .ok (.ireturn, 1) := dk_172 (dk_at dksX50_share_3 4 rfl rfl)
abbrev cX50_isFree : ByteArray := prog_64_method_12_code
def yX50_isFree : MethodName := ⟨RX50, "isFree", "(III)Z"⟩
def dkwX50_isFree_1 : List UInt8 := [4, 100, 162, 0, 7, 4, 167, 0, 4, 3, 172]
abbrev dktX50_isFree_1 : List UInt8 := dkwX50_isFree_1 ++ []
def dkwX50_isFree_0 : List UInt8 := [42, 27, 29, 182, 0, 129, 153, 0, 27, 42, 28, 182, 0, 133, 153, 0, 19, 29, 42, 180, 0, 16, 27, 46]
abbrev dktX50_isFree_0 : List UInt8 := dkwX50_isFree_0 ++ dktX50_isFree_1
theorem dksX50_isFree_0 : cX50_isFree.data.toList.drop 0 = dktX50_isFree_0 := by decide +kernel
theorem dksX50_isFree_1 : cX50_isFree.data.toList.drop 24 = dktX50_isFree_1 := dk_seg dksX50_isFree_0 24 rfl rfl
theorem dX50_isFree_0 : decode cX50_isFree 0 = .ok (.aload_n 0, 1) := dk_42 (dk_at dksX50_isFree_0 0 rfl rfl)
theorem dX50_isFree_1 : decode cX50_isFree 1 = .ok (.iload_n 1, 1) := dk_27 (dk_at dksX50_isFree_0 1 rfl rfl)
theorem dX50_isFree_2 : decode cX50_isFree 2 = .ok (.iload_n 3, 1) := dk_29 (dk_at dksX50_isFree_0 2 rfl rfl)
theorem dX50_isFree_3 : decode cX50_isFree 3 = .ok (.invokevirtual 129, 3) := dk_182 0 129 (dk_at dksX50_isFree_0 3 rfl rfl)
theorem dX50_isFree_6 : decode cX50_isFree 6 = .ok (.ifCond .eq 27, 3) := dk_153 0 27 (dk_at dksX50_isFree_0 6 rfl rfl)
theorem dX50_isFree_9 : decode cX50_isFree 9 = .ok (.aload_n 0, 1) := dk_42 (dk_at dksX50_isFree_0 9 rfl rfl)
theorem dX50_isFree_10 : decode cX50_isFree 10 = .ok (.iload_n 2, 1) := dk_28 (dk_at dksX50_isFree_0 10 rfl rfl)
theorem dX50_isFree_11 : decode cX50_isFree 11 = .ok (.invokevirtual 133, 3) := dk_182 0 133 (dk_at dksX50_isFree_0 11 rfl rfl)
theorem dX50_isFree_14 : decode cX50_isFree 14 = .ok (.ifCond .eq 19, 3) := dk_153 0 19 (dk_at dksX50_isFree_0 14 rfl rfl)
theorem dX50_isFree_17 : decode cX50_isFree 17 = .ok (.iload_n 3, 1) := dk_29 (dk_at dksX50_isFree_0 17 rfl rfl)
theorem dX50_isFree_18 : decode cX50_isFree 18 = .ok (.aload_n 0, 1) := dk_42 (dk_at dksX50_isFree_0 18 rfl rfl)
theorem dX50_isFree_19 : decode cX50_isFree 19 = .ok (.getfield 16, 3) := dk_180 0 16 (dk_at dksX50_isFree_0 19 rfl rfl)
theorem dX50_isFree_22 : decode cX50_isFree 22 = .ok (.iload_n 1, 1) := dk_27 (dk_at dksX50_isFree_0 22 rfl rfl)
theorem dX50_isFree_23 : decode cX50_isFree 23 = .ok (.iaload, 1) := dk_46 (dk_at dksX50_isFree_0 23 rfl rfl)
theorem dX50_isFree_24 : decode cX50_isFree 24 = .ok (.iconst 1, 1) := dk_4 (dk_at dksX50_isFree_1 0 rfl rfl)
theorem dX50_isFree_25 : decode cX50_isFree 25 = .ok (.isub, 1) := dk_100 (dk_at dksX50_isFree_1 1 rfl rfl)
theorem dX50_isFree_26 : decode cX50_isFree 26 = .ok (.if_icmp .ge 7, 3) := dk_162 0 7 (dk_at dksX50_isFree_1 2 rfl rfl)
theorem dX50_isFree_29 : decode cX50_isFree 29 = .ok (.iconst 1, 1) := dk_4 (dk_at dksX50_isFree_1 5 rfl rfl)
theorem dX50_isFree_30 : decode cX50_isFree 30 = .ok (.goto 4, 3) := dk_167 0 4 (dk_at dksX50_isFree_1 6 rfl rfl)
theorem dX50_isFree_33 : decode cX50_isFree 33 = .ok (.iconst 0, 1) := dk_3 (dk_at dksX50_isFree_1 9 rfl rfl)
theorem dX50_isFree_34 : decode cX50_isFree 34 = .ok (.ireturn, 1) := dk_172 (dk_at dksX50_isFree_1 10 rfl rfl)
abbrev cX50_isShare : ByteArray := prog_64_method_3_code
def yX50_isShare : MethodName := ⟨RX50, "isShare", "(JJ)Z"⟩
def dkwX50_isShare_1 : List UInt8 := [157, 0, 7, 4, 167, 0, 4, 3, 172]
abbrev dktX50_isShare_1 : List UInt8 := dkwX50_isShare_1 ++ []
def dkwX50_isShare_0 : List UInt8 := [32, 10, 148, 155, 0, 27, 32, 20, 0, 116, 148, 157, 0, 19, 30, 9, 148, 155, 0, 13, 30, 32, 148]
abbrev dktX50_isShare_0 : List UInt8 := dkwX50_isShare_0 ++ dktX50_isShare_1
theorem dksX50_isShare_0 : cX50_isShare.data.toList.drop 0 = dktX50_isShare_0 := by decide +kernel
theorem dksX50_isShare_1 : cX50_isShare.data.toList.drop 23 = dktX50_isShare_1 := dk_seg dksX50_isShare_0 23 rfl rfl
theorem dX50_isShare_0 : decode cX50_isShare 0 = .ok (.lload_n 2, 1) := dk_32 (dk_at dksX50_isShare_0 0 rfl rfl)
theorem dX50_isShare_1 : decode cX50_isShare 1 = .ok (.lconst 1, 1) := dk_10 (dk_at dksX50_isShare_0 1 rfl rfl)
theorem dX50_isShare_2 : decode cX50_isShare 2 = .ok (.lcmp, 1) := dk_148 (dk_at dksX50_isShare_0 2 rfl rfl)
theorem dX50_isShare_3 : decode cX50_isShare 3 = .ok (.ifCond .lt 27, 3) := dk_155 0 27 (dk_at dksX50_isShare_0 3 rfl rfl)
theorem dX50_isShare_6 : decode cX50_isShare 6 = .ok (.lload_n 2, 1) := dk_32 (dk_at dksX50_isShare_0 6 rfl rfl)
theorem dX50_isShare_7 : decode cX50_isShare 7 = .ok (.ldc2_w 116, 3) := dk_20 0 116 (dk_at dksX50_isShare_0 7 rfl rfl)
theorem dX50_isShare_10 : decode cX50_isShare 10 = .ok (.lcmp, 1) := dk_148 (dk_at dksX50_isShare_0 10 rfl rfl)
theorem dX50_isShare_11 : decode cX50_isShare 11 = .ok (.ifCond .gt 19, 3) := dk_157 0 19 (dk_at dksX50_isShare_0 11 rfl rfl)
theorem dX50_isShare_14 : decode cX50_isShare 14 = .ok (.lload_n 0, 1) := dk_30 (dk_at dksX50_isShare_0 14 rfl rfl)
theorem dX50_isShare_15 : decode cX50_isShare 15 = .ok (.lconst 0, 1) := dk_9 (dk_at dksX50_isShare_0 15 rfl rfl)
theorem dX50_isShare_16 : decode cX50_isShare 16 = .ok (.lcmp, 1) := dk_148 (dk_at dksX50_isShare_0 16 rfl rfl)
theorem dX50_isShare_17 : decode cX50_isShare 17 = .ok (.ifCond .lt 13, 3) := dk_155 0 13 (dk_at dksX50_isShare_0 17 rfl rfl)
theorem dX50_isShare_20 : decode cX50_isShare 20 = .ok (.lload_n 0, 1) := dk_30 (dk_at dksX50_isShare_0 20 rfl rfl)
theorem dX50_isShare_21 : decode cX50_isShare 21 = .ok (.lload_n 2, 1) := dk_32 (dk_at dksX50_isShare_0 21 rfl rfl)
theorem dX50_isShare_22 : decode cX50_isShare 22 = .ok (.lcmp, 1) := dk_148 (dk_at dksX50_isShare_0 22 rfl rfl)
theorem dX50_isShare_23 : decode cX50_isShare 23 = .ok (.ifCond .gt 7, 3) := dk_157 0 7 (dk_at dksX50_isShare_1 0 rfl rfl)
theorem dX50_isShare_26 : decode cX50_isShare 26 = .ok (.iconst 1, 1) := dk_4 (dk_at dksX50_isShare_1 3 rfl rfl)
theorem dX50_isShare_27 : decode cX50_isShare 27 = .ok (.goto 4, 3) := dk_167 0 4 (dk_at dksX50_isShare_1 4 rfl rfl)
theorem dX50_isShare_30 : decode cX50_isShare 30 = .ok (.iconst 0, 1) := dk_3 (dk_at dksX50_isShare_1 7 rfl rfl)
theorem dX50_isShare_31 : decode cX50_isShare 31 = .ok (.ireturn, 1) := dk_172 (dk_at dksX50_isShare_1 8 rfl rfl)
abbrev cX50_fits : ByteArray := prog_64_method_11_code
def yX50_fits : MethodName := ⟨RX50, "fits", "(IIIJJ)Z"⟩
def dkwX50_fits_2 : List UInt8 := [157, 0, 7, 4, 167, 0, 4, 3, 172]
abbrev dktX50_fits_2 : List UInt8 := dkwX50_fits_2 ++ []
def dkwX50_fits_1 : List UInt8 := [22, 4, 22, 9, 105, 42, 180, 0, 22, 21, 8, 46, 133, 22, 6, 105, 97, 22, 6, 22, 9, 105, 148]
abbrev dktX50_fits_1 : List UInt8 := dkwX50_fits_1 ++ dktX50_fits_2
def dkwX50_fits_0 : List UInt8 := [5, 6, 27, 104, 28, 96, 104, 4, 96, 29, 100, 54, 8, 42, 180, 0, 25, 21, 8, 46, 133, 55, 9]
abbrev dktX50_fits_0 : List UInt8 := dkwX50_fits_0 ++ dktX50_fits_1
theorem dksX50_fits_0 : cX50_fits.data.toList.drop 0 = dktX50_fits_0 := by decide +kernel
theorem dksX50_fits_1 : cX50_fits.data.toList.drop 23 = dktX50_fits_1 := dk_seg dksX50_fits_0 23 rfl rfl
theorem dksX50_fits_2 : cX50_fits.data.toList.drop 46 = dktX50_fits_2 := dk_seg dksX50_fits_1 23 rfl rfl
theorem dX50_fits_0 : decode cX50_fits 0 = .ok (.iconst 2, 1) := dk_5 (dk_at dksX50_fits_0 0 rfl rfl)
theorem dX50_fits_1 : decode cX50_fits 1 = .ok (.iconst 3, 1) := dk_6 (dk_at dksX50_fits_0 1 rfl rfl)
theorem dX50_fits_2 : decode cX50_fits 2 = .ok (.iload_n 1, 1) := dk_27 (dk_at dksX50_fits_0 2 rfl rfl)
theorem dX50_fits_3 : decode cX50_fits 3 = .ok (.imul, 1) := dk_104 (dk_at dksX50_fits_0 3 rfl rfl)
theorem dX50_fits_4 : decode cX50_fits 4 = .ok (.iload_n 2, 1) := dk_28 (dk_at dksX50_fits_0 4 rfl rfl)
theorem dX50_fits_5 : decode cX50_fits 5 = .ok (.iadd, 1) := dk_96 (dk_at dksX50_fits_0 5 rfl rfl)
theorem dX50_fits_6 : decode cX50_fits 6 = .ok (.imul, 1) := dk_104 (dk_at dksX50_fits_0 6 rfl rfl)
theorem dX50_fits_7 : decode cX50_fits 7 = .ok (.iconst 1, 1) := dk_4 (dk_at dksX50_fits_0 7 rfl rfl)
theorem dX50_fits_8 : decode cX50_fits 8 = .ok (.iadd, 1) := dk_96 (dk_at dksX50_fits_0 8 rfl rfl)
theorem dX50_fits_9 : decode cX50_fits 9 = .ok (.iload_n 3, 1) := dk_29 (dk_at dksX50_fits_0 9 rfl rfl)
theorem dX50_fits_10 : decode cX50_fits 10 = .ok (.isub, 1) := dk_100 (dk_at dksX50_fits_0 10 rfl rfl)
theorem dX50_fits_11 : decode cX50_fits 11 = .ok (.istore 8, 2) := dk_54 8 (dk_at dksX50_fits_0 11 rfl rfl)
theorem dX50_fits_13 : decode cX50_fits 13 = .ok (.aload_n 0, 1) := dk_42 (dk_at dksX50_fits_0 13 rfl rfl)
theorem dX50_fits_14 : decode cX50_fits 14 = .ok (.getfield 25, 3) := dk_180 0 25 (dk_at dksX50_fits_0 14 rfl rfl)
theorem dX50_fits_17 : decode cX50_fits 17 = .ok (.iload 8, 2) := dk_21 8 (dk_at dksX50_fits_0 17 rfl rfl)
theorem dX50_fits_19 : decode cX50_fits 19 = .ok (.iaload, 1) := dk_46 (dk_at dksX50_fits_0 19 rfl rfl)
theorem dX50_fits_20 : decode cX50_fits 20 = .ok (.i2l, 1) := dk_133 (dk_at dksX50_fits_0 20 rfl rfl)
theorem dX50_fits_21 : decode cX50_fits 21 = .ok (.lstore 9, 2) := dk_55 9 (dk_at dksX50_fits_0 21 rfl rfl)
theorem dX50_fits_23 : decode cX50_fits 23 = .ok (.lload 4, 2) := dk_22 4 (dk_at dksX50_fits_1 0 rfl rfl)
theorem dX50_fits_25 : decode cX50_fits 25 = .ok (.lload 9, 2) := dk_22 9 (dk_at dksX50_fits_1 2 rfl rfl)
theorem dX50_fits_27 : decode cX50_fits 27 = .ok (.lmul, 1) := dk_105 (dk_at dksX50_fits_1 4 rfl rfl)
theorem dX50_fits_28 : decode cX50_fits 28 = .ok (.aload_n 0, 1) := dk_42 (dk_at dksX50_fits_1 5 rfl rfl)
theorem dX50_fits_29 : decode cX50_fits 29 = .ok (.getfield 22, 3) := dk_180 0 22 (dk_at dksX50_fits_1 6 rfl rfl)
theorem dX50_fits_32 : decode cX50_fits 32 = .ok (.iload 8, 2) := dk_21 8 (dk_at dksX50_fits_1 9 rfl rfl)
theorem dX50_fits_34 : decode cX50_fits 34 = .ok (.iaload, 1) := dk_46 (dk_at dksX50_fits_1 11 rfl rfl)
theorem dX50_fits_35 : decode cX50_fits 35 = .ok (.i2l, 1) := dk_133 (dk_at dksX50_fits_1 12 rfl rfl)
theorem dX50_fits_36 : decode cX50_fits 36 = .ok (.lload 6, 2) := dk_22 6 (dk_at dksX50_fits_1 13 rfl rfl)
theorem dX50_fits_38 : decode cX50_fits 38 = .ok (.lmul, 1) := dk_105 (dk_at dksX50_fits_1 15 rfl rfl)
theorem dX50_fits_39 : decode cX50_fits 39 = .ok (.ladd, 1) := dk_97 (dk_at dksX50_fits_1 16 rfl rfl)
theorem dX50_fits_40 : decode cX50_fits 40 = .ok (.lload 6, 2) := dk_22 6 (dk_at dksX50_fits_1 17 rfl rfl)
theorem dX50_fits_42 : decode cX50_fits 42 = .ok (.lload 9, 2) := dk_22 9 (dk_at dksX50_fits_1 19 rfl rfl)
theorem dX50_fits_44 : decode cX50_fits 44 = .ok (.lmul, 1) := dk_105 (dk_at dksX50_fits_1 21 rfl rfl)
theorem dX50_fits_45 : decode cX50_fits 45 = .ok (.lcmp, 1) := dk_148 (dk_at dksX50_fits_1 22 rfl rfl)
theorem dX50_fits_46 : decode cX50_fits 46 = .ok (.ifCond .gt 7, 3) := dk_157 0 7 (dk_at dksX50_fits_2 0 rfl rfl)
theorem dX50_fits_49 : decode cX50_fits 49 = .ok (.iconst 1, 1) := dk_4 (dk_at dksX50_fits_2 3 rfl rfl)
theorem dX50_fits_50 : decode cX50_fits 50 = .ok (.goto 4, 3) := dk_167 0 4 (dk_at dksX50_fits_2 4 rfl rfl)
theorem dX50_fits_53 : decode cX50_fits 53 = .ok (.iconst 0, 1) := dk_3 (dk_at dksX50_fits_2 7 rfl rfl)
theorem dX50_fits_54 : decode cX50_fits 54 = .ok (.ireturn, 1) := dk_172 (dk_at dksX50_fits_2 8 rfl rfl)
abbrev cX50_crush : ByteArray := prog_64_method_14_code
def yX50_crush : MethodName := ⟨RX50, "crush", "(IIIJJ)Z"⟩
def dkwX50_crush_3 : List UInt8 := [28, 96, 22, 6, 136, 79, 42, 182, 0, 122, 4, 172]
abbrev dktX50_crush_3 : List UInt8 := dkwX50_crush_3 ++ []
def dkwX50_crush_2 : List UInt8 := [28, 96, 29, 79, 42, 180, 0, 31, 6, 27, 104, 28, 96, 22, 4, 136, 79, 42, 180, 0, 34, 6, 27, 104]
abbrev dktX50_crush_2 : List UInt8 := dkwX50_crush_2 ++ dktX50_crush_3
def dkwX50_crush_1 : List UInt8 := [28, 29, 159, 0, 13, 22, 4, 22, 6, 184, 0, 140, 154, 0, 5, 3, 172, 42, 180, 0, 28, 6, 27, 104]
abbrev dktX50_crush_1 : List UInt8 := dkwX50_crush_1 ++ dktX50_crush_2
def dkwX50_crush_0 : List UInt8 := [42, 27, 182, 0, 125, 153, 0, 34, 42, 28, 182, 0, 133, 153, 0, 26, 42, 29, 182, 0, 133, 153, 0, 18]
abbrev dktX50_crush_0 : List UInt8 := dkwX50_crush_0 ++ dktX50_crush_1
theorem dksX50_crush_0 : cX50_crush.data.toList.drop 0 = dktX50_crush_0 := by decide +kernel
theorem dksX50_crush_1 : cX50_crush.data.toList.drop 24 = dktX50_crush_1 := dk_seg dksX50_crush_0 24 rfl rfl
theorem dksX50_crush_2 : cX50_crush.data.toList.drop 48 = dktX50_crush_2 := dk_seg dksX50_crush_1 24 rfl rfl
theorem dksX50_crush_3 : cX50_crush.data.toList.drop 72 = dktX50_crush_3 := dk_seg dksX50_crush_2 24 rfl rfl
theorem dX50_crush_0 : decode cX50_crush 0 = .ok (.aload_n 0, 1) := dk_42 (dk_at dksX50_crush_0 0 rfl rfl)
theorem dX50_crush_1 : decode cX50_crush 1 = .ok (.iload_n 1, 1) := dk_27 (dk_at dksX50_crush_0 1 rfl rfl)
theorem dX50_crush_2 : decode cX50_crush 2 = .ok (.invokevirtual 125, 3) := dk_182 0 125 (dk_at dksX50_crush_0 2 rfl rfl)
theorem dX50_crush_5 : decode cX50_crush 5 = .ok (.ifCond .eq 34, 3) := dk_153 0 34 (dk_at dksX50_crush_0 5 rfl rfl)
theorem dX50_crush_8 : decode cX50_crush 8 = .ok (.aload_n 0, 1) := dk_42 (dk_at dksX50_crush_0 8 rfl rfl)
theorem dX50_crush_9 : decode cX50_crush 9 = .ok (.iload_n 2, 1) := dk_28 (dk_at dksX50_crush_0 9 rfl rfl)
theorem dX50_crush_10 : decode cX50_crush 10 = .ok (.invokevirtual 133, 3) := dk_182 0 133 (dk_at dksX50_crush_0 10 rfl rfl)
theorem dX50_crush_13 : decode cX50_crush 13 = .ok (.ifCond .eq 26, 3) := dk_153 0 26 (dk_at dksX50_crush_0 13 rfl rfl)
theorem dX50_crush_16 : decode cX50_crush 16 = .ok (.aload_n 0, 1) := dk_42 (dk_at dksX50_crush_0 16 rfl rfl)
theorem dX50_crush_17 : decode cX50_crush 17 = .ok (.iload_n 3, 1) := dk_29 (dk_at dksX50_crush_0 17 rfl rfl)
theorem dX50_crush_18 : decode cX50_crush 18 = .ok (.invokevirtual 133, 3) := dk_182 0 133 (dk_at dksX50_crush_0 18 rfl rfl)
theorem dX50_crush_21 : decode cX50_crush 21 = .ok (.ifCond .eq 18, 3) := dk_153 0 18 (dk_at dksX50_crush_0 21 rfl rfl)
theorem dX50_crush_24 : decode cX50_crush 24 = .ok (.iload_n 2, 1) := dk_28 (dk_at dksX50_crush_1 0 rfl rfl)
theorem dX50_crush_25 : decode cX50_crush 25 = .ok (.iload_n 3, 1) := dk_29 (dk_at dksX50_crush_1 1 rfl rfl)
theorem dX50_crush_26 : decode cX50_crush 26 = .ok (.if_icmp .eq 13, 3) := dk_159 0 13 (dk_at dksX50_crush_1 2 rfl rfl)
theorem dX50_crush_29 : decode cX50_crush 29 = .ok (.lload 4, 2) := dk_22 4 (dk_at dksX50_crush_1 5 rfl rfl)
theorem dX50_crush_31 : decode cX50_crush 31 = .ok (.lload 6, 2) := dk_22 6 (dk_at dksX50_crush_1 7 rfl rfl)
theorem dX50_crush_33 : decode cX50_crush 33 = .ok (.invokestatic 140, 3) := dk_184 0 140 (dk_at dksX50_crush_1 9 rfl rfl)
theorem dX50_crush_36 : decode cX50_crush 36 = .ok (.ifCond .ne 5, 3) := dk_154 0 5 (dk_at dksX50_crush_1 12 rfl rfl)
theorem dX50_crush_39 : decode cX50_crush 39 = .ok (.iconst 0, 1) := dk_3 (dk_at dksX50_crush_1 15 rfl rfl)
theorem dX50_crush_40 : decode cX50_crush 40 = .ok (.ireturn, 1) := dk_172 (dk_at dksX50_crush_1 16 rfl rfl)
theorem dX50_crush_41 : decode cX50_crush 41 = .ok (.aload_n 0, 1) := dk_42 (dk_at dksX50_crush_1 17 rfl rfl)
theorem dX50_crush_42 : decode cX50_crush 42 = .ok (.getfield 28, 3) := dk_180 0 28 (dk_at dksX50_crush_1 18 rfl rfl)
theorem dX50_crush_45 : decode cX50_crush 45 = .ok (.iconst 3, 1) := dk_6 (dk_at dksX50_crush_1 21 rfl rfl)
theorem dX50_crush_46 : decode cX50_crush 46 = .ok (.iload_n 1, 1) := dk_27 (dk_at dksX50_crush_1 22 rfl rfl)
theorem dX50_crush_47 : decode cX50_crush 47 = .ok (.imul, 1) := dk_104 (dk_at dksX50_crush_1 23 rfl rfl)
theorem dX50_crush_48 : decode cX50_crush 48 = .ok (.iload_n 2, 1) := dk_28 (dk_at dksX50_crush_2 0 rfl rfl)
theorem dX50_crush_49 : decode cX50_crush 49 = .ok (.iadd, 1) := dk_96 (dk_at dksX50_crush_2 1 rfl rfl)
theorem dX50_crush_50 : decode cX50_crush 50 = .ok (.iload_n 3, 1) := dk_29 (dk_at dksX50_crush_2 2 rfl rfl)
theorem dX50_crush_51 : decode cX50_crush 51 = .ok (.iastore, 1) := dk_79 (dk_at dksX50_crush_2 3 rfl rfl)
theorem dX50_crush_52 : decode cX50_crush 52 = .ok (.aload_n 0, 1) := dk_42 (dk_at dksX50_crush_2 4 rfl rfl)
theorem dX50_crush_53 : decode cX50_crush 53 = .ok (.getfield 31, 3) := dk_180 0 31 (dk_at dksX50_crush_2 5 rfl rfl)
theorem dX50_crush_56 : decode cX50_crush 56 = .ok (.iconst 3, 1) := dk_6 (dk_at dksX50_crush_2 8 rfl rfl)
theorem dX50_crush_57 : decode cX50_crush 57 = .ok (.iload_n 1, 1) := dk_27 (dk_at dksX50_crush_2 9 rfl rfl)
theorem dX50_crush_58 : decode cX50_crush 58 = .ok (.imul, 1) := dk_104 (dk_at dksX50_crush_2 10 rfl rfl)
theorem dX50_crush_59 : decode cX50_crush 59 = .ok (.iload_n 2, 1) := dk_28 (dk_at dksX50_crush_2 11 rfl rfl)
theorem dX50_crush_60 : decode cX50_crush 60 = .ok (.iadd, 1) := dk_96 (dk_at dksX50_crush_2 12 rfl rfl)
theorem dX50_crush_61 : decode cX50_crush 61 = .ok (.lload 4, 2) := dk_22 4 (dk_at dksX50_crush_2 13 rfl rfl)
theorem dX50_crush_63 : decode cX50_crush 63 = .ok (.l2i, 1) := dk_136 (dk_at dksX50_crush_2 15 rfl rfl)
theorem dX50_crush_64 : decode cX50_crush 64 = .ok (.iastore, 1) := dk_79 (dk_at dksX50_crush_2 16 rfl rfl)
theorem dX50_crush_65 : decode cX50_crush 65 = .ok (.aload_n 0, 1) := dk_42 (dk_at dksX50_crush_2 17 rfl rfl)
theorem dX50_crush_66 : decode cX50_crush 66 = .ok (.getfield 34, 3) := dk_180 0 34 (dk_at dksX50_crush_2 18 rfl rfl)
theorem dX50_crush_69 : decode cX50_crush 69 = .ok (.iconst 3, 1) := dk_6 (dk_at dksX50_crush_2 21 rfl rfl)
theorem dX50_crush_70 : decode cX50_crush 70 = .ok (.iload_n 1, 1) := dk_27 (dk_at dksX50_crush_2 22 rfl rfl)
theorem dX50_crush_71 : decode cX50_crush 71 = .ok (.imul, 1) := dk_104 (dk_at dksX50_crush_2 23 rfl rfl)
theorem dX50_crush_72 : decode cX50_crush 72 = .ok (.iload_n 2, 1) := dk_28 (dk_at dksX50_crush_3 0 rfl rfl)
theorem dX50_crush_73 : decode cX50_crush 73 = .ok (.iadd, 1) := dk_96 (dk_at dksX50_crush_3 1 rfl rfl)
theorem dX50_crush_74 : decode cX50_crush 74 = .ok (.lload 6, 2) := dk_22 6 (dk_at dksX50_crush_3 2 rfl rfl)
theorem dX50_crush_76 : decode cX50_crush 76 = .ok (.l2i, 1) := dk_136 (dk_at dksX50_crush_3 4 rfl rfl)
theorem dX50_crush_77 : decode cX50_crush 77 = .ok (.iastore, 1) := dk_79 (dk_at dksX50_crush_3 5 rfl rfl)
theorem dX50_crush_78 : decode cX50_crush 78 = .ok (.aload_n 0, 1) := dk_42 (dk_at dksX50_crush_3 6 rfl rfl)
theorem dX50_crush_79 : decode cX50_crush 79 = .ok (.invokevirtual 122, 3) := dk_182 0 122 (dk_at dksX50_crush_3 7 rfl rfl)
theorem dX50_crush_82 : decode cX50_crush 82 = .ok (.iconst 1, 1) := dk_4 (dk_at dksX50_crush_3 10 rfl rfl)
theorem dX50_crush_83 : decode cX50_crush 83 = .ok (.ireturn, 1) := dk_172 (dk_at dksX50_crush_3 11 rfl rfl)
abbrev cX50_load : ByteArray := prog_64_method_54_code
def yX50_load : MethodName := ⟨RX50, "load", "(II)J"⟩
def dkwX50_load_2 : List UInt8 := [173]
abbrev dktX50_load_2 : List UInt8 := dkwX50_load_2 ++ []
def dkwX50_load_1 : List UInt8 := [155, 0, 9, 28, 16, 6, 164, 0, 7, 20, 0, 223, 173, 42, 27, 182, 1, 23, 42, 28, 3, 182, 1, 19]
abbrev dktX50_load_1 : List UInt8 := dkwX50_load_1 ++ dktX50_load_2
def dkwX50_load_0 : List UInt8 := [42, 180, 1, 4, 153, 0, 27, 27, 155, 0, 23, 27, 42, 180, 0, 7, 4, 46, 162, 0, 13, 28]
abbrev dktX50_load_0 : List UInt8 := dkwX50_load_0 ++ dktX50_load_1
theorem dksX50_load_0 : cX50_load.data.toList.drop 0 = dktX50_load_0 := by decide +kernel
theorem dksX50_load_1 : cX50_load.data.toList.drop 22 = dktX50_load_1 := dk_seg dksX50_load_0 22 rfl rfl
theorem dksX50_load_2 : cX50_load.data.toList.drop 46 = dktX50_load_2 := dk_seg dksX50_load_1 24 rfl rfl
theorem dX50_load_0 : decode cX50_load 0 = .ok (.aload_n 0, 1) := dk_42 (dk_at dksX50_load_0 0 rfl rfl)
theorem dX50_load_1 : decode cX50_load 1 = .ok (.getfield 260, 3) := dk_180 1 4 (dk_at dksX50_load_0 1 rfl rfl)
theorem dX50_load_4 : decode cX50_load 4 = .ok (.ifCond .eq 27, 3) := dk_153 0 27 (dk_at dksX50_load_0 4 rfl rfl)
theorem dX50_load_7 : decode cX50_load 7 = .ok (.iload_n 1, 1) := dk_27 (dk_at dksX50_load_0 7 rfl rfl)
theorem dX50_load_8 : decode cX50_load 8 = .ok (.ifCond .lt 23, 3) := dk_155 0 23 (dk_at dksX50_load_0 8 rfl rfl)
theorem dX50_load_11 : decode cX50_load 11 = .ok (.iload_n 1, 1) := dk_27 (dk_at dksX50_load_0 11 rfl rfl)
theorem dX50_load_12 : decode cX50_load 12 = .ok (.aload_n 0, 1) := dk_42 (dk_at dksX50_load_0 12 rfl rfl)
theorem dX50_load_13 : decode cX50_load 13 = .ok (.getfield 7, 3) := dk_180 0 7 (dk_at dksX50_load_0 13 rfl rfl)
theorem dX50_load_16 : decode cX50_load 16 = .ok (.iconst 1, 1) := dk_4 (dk_at dksX50_load_0 16 rfl rfl)
theorem dX50_load_17 : decode cX50_load 17 = .ok (.iaload, 1) := dk_46 (dk_at dksX50_load_0 17 rfl rfl)
theorem dX50_load_18 : decode cX50_load 18 = .ok (.if_icmp .ge 13, 3) := dk_162 0 13 (dk_at dksX50_load_0 18 rfl rfl)
theorem dX50_load_21 : decode cX50_load 21 = .ok (.iload_n 2, 1) := dk_28 (dk_at dksX50_load_0 21 rfl rfl)
theorem dX50_load_22 : decode cX50_load 22 = .ok (.ifCond .lt 9, 3) := dk_155 0 9 (dk_at dksX50_load_1 0 rfl rfl)
theorem dX50_load_25 : decode cX50_load 25 = .ok (.iload_n 2, 1) := dk_28 (dk_at dksX50_load_1 3 rfl rfl)
theorem dX50_load_26 : decode cX50_load 26 = .ok (.bipush 6, 2) := dk_16 6 (dk_at dksX50_load_1 4 rfl rfl)
theorem dX50_load_28 : decode cX50_load 28 = .ok (.if_icmp .le 7, 3) := dk_164 0 7 (dk_at dksX50_load_1 6 rfl rfl)
theorem dX50_load_31 : decode cX50_load 31 = .ok (.ldc2_w 223, 3) := dk_20 0 223 (dk_at dksX50_load_1 9 rfl rfl)
theorem dX50_load_34 : decode cX50_load 34 = .ok (.lreturn, 1) := dk_173 (dk_at dksX50_load_1 12 rfl rfl)
theorem dX50_load_35 : decode cX50_load 35 = .ok (.aload_n 0, 1) := dk_42 (dk_at dksX50_load_1 13 rfl rfl)
theorem dX50_load_36 : decode cX50_load 36 = .ok (.iload_n 1, 1) := dk_27 (dk_at dksX50_load_1 14 rfl rfl)
theorem dX50_load_37 : decode cX50_load 37 = .ok (.invokevirtual 279, 3) := dk_182 1 23 (dk_at dksX50_load_1 15 rfl rfl)
theorem dX50_load_40 : decode cX50_load 40 = .ok (.aload_n 0, 1) := dk_42 (dk_at dksX50_load_1 18 rfl rfl)
theorem dX50_load_41 : decode cX50_load 41 = .ok (.iload_n 2, 1) := dk_28 (dk_at dksX50_load_1 19 rfl rfl)
theorem dX50_load_42 : decode cX50_load 42 = .ok (.iconst 0, 1) := dk_3 (dk_at dksX50_load_1 20 rfl rfl)
theorem dX50_load_43 : decode cX50_load 43 = .ok (.invokevirtual 275, 3) := dk_182 1 19 (dk_at dksX50_load_1 21 rfl rfl)
theorem dX50_load_46 : decode cX50_load 46 = .ok (.lreturn, 1) := dk_173 (dk_at dksX50_load_2 0 rfl rfl)
abbrev cX50_reckonLoad : ByteArray := prog_64_method_53_code
def yX50_reckonLoad : MethodName := ⟨RX50, "reckonLoad", "(I)V"⟩
def dkwX50_reckonLoad_1 : List UInt8 := [42, 180, 0, 54, 6, 27, 104, 28, 96, 47, 80, 132, 2, 1, 167, 255, 225, 42, 4, 3, 182, 1, 16, 177]
abbrev dktX50_reckonLoad_1 : List UInt8 := dkwX50_reckonLoad_1 ++ []
def dkwX50_reckonLoad_0 : List UInt8 := [42, 4, 182, 1, 10, 3, 61, 28, 42, 180, 0, 97, 162, 0, 29, 42, 180, 0, 87, 6, 27, 104, 28, 96]
abbrev dktX50_reckonLoad_0 : List UInt8 := dkwX50_reckonLoad_0 ++ dktX50_reckonLoad_1
theorem dksX50_reckonLoad_0 : cX50_reckonLoad.data.toList.drop 0 = dktX50_reckonLoad_0 := by decide +kernel
theorem dksX50_reckonLoad_1 : cX50_reckonLoad.data.toList.drop 24 = dktX50_reckonLoad_1 := dk_seg dksX50_reckonLoad_0 24 rfl rfl
theorem dX50_reckonLoad_0 : decode cX50_reckonLoad 0 = .ok (.aload_n 0, 1) := dk_42 (dk_at dksX50_reckonLoad_0 0 rfl rfl)
theorem dX50_reckonLoad_1 : decode cX50_reckonLoad 1 = .ok (.iconst 1, 1) := dk_4 (dk_at dksX50_reckonLoad_0 1 rfl rfl)
theorem dX50_reckonLoad_2 : decode cX50_reckonLoad 2 = .ok (.invokevirtual 266, 3) := dk_182 1 10 (dk_at dksX50_reckonLoad_0 2 rfl rfl)
theorem dX50_reckonLoad_5 : decode cX50_reckonLoad 5 = .ok (.iconst 0, 1) := dk_3 (dk_at dksX50_reckonLoad_0 5 rfl rfl)
theorem dX50_reckonLoad_6 : decode cX50_reckonLoad 6 = .ok (.istore_n 2, 1) := dk_61 (dk_at dksX50_reckonLoad_0 6 rfl rfl)
theorem dX50_reckonLoad_7 : decode cX50_reckonLoad 7 = .ok (.iload_n 2, 1) := dk_28 (dk_at dksX50_reckonLoad_0 7 rfl rfl)
theorem dX50_reckonLoad_8 : decode cX50_reckonLoad 8 = .ok (.aload_n 0, 1) := dk_42 (dk_at dksX50_reckonLoad_0 8 rfl rfl)
theorem dX50_reckonLoad_9 : decode cX50_reckonLoad 9 = .ok (.getfield 97, 3) := dk_180 0 97 (dk_at dksX50_reckonLoad_0 9 rfl rfl)
theorem dX50_reckonLoad_12 : decode cX50_reckonLoad 12 = .ok (.if_icmp .ge 29, 3) := dk_162 0 29 (dk_at dksX50_reckonLoad_0 12 rfl rfl)
theorem dX50_reckonLoad_15 : decode cX50_reckonLoad 15 = .ok (.aload_n 0, 1) := dk_42 (dk_at dksX50_reckonLoad_0 15 rfl rfl)
theorem dX50_reckonLoad_16 : decode cX50_reckonLoad 16 = .ok (.getfield 87, 3) := dk_180 0 87 (dk_at dksX50_reckonLoad_0 16 rfl rfl)
theorem dX50_reckonLoad_19 : decode cX50_reckonLoad 19 = .ok (.iconst 3, 1) := dk_6 (dk_at dksX50_reckonLoad_0 19 rfl rfl)
theorem dX50_reckonLoad_20 : decode cX50_reckonLoad 20 = .ok (.iload_n 1, 1) := dk_27 (dk_at dksX50_reckonLoad_0 20 rfl rfl)
theorem dX50_reckonLoad_21 : decode cX50_reckonLoad 21 = .ok (.imul, 1) := dk_104 (dk_at dksX50_reckonLoad_0 21 rfl rfl)
theorem dX50_reckonLoad_22 : decode cX50_reckonLoad 22 = .ok (.iload_n 2, 1) := dk_28 (dk_at dksX50_reckonLoad_0 22 rfl rfl)
theorem dX50_reckonLoad_23 : decode cX50_reckonLoad 23 = .ok (.iadd, 1) := dk_96 (dk_at dksX50_reckonLoad_0 23 rfl rfl)
theorem dX50_reckonLoad_24 : decode cX50_reckonLoad 24 = .ok (.aload_n 0, 1) := dk_42 (dk_at dksX50_reckonLoad_1 0 rfl rfl)
theorem dX50_reckonLoad_25 : decode cX50_reckonLoad 25 = .ok (.getfield 54, 3) := dk_180 0 54 (dk_at dksX50_reckonLoad_1 1 rfl rfl)
theorem dX50_reckonLoad_28 : decode cX50_reckonLoad 28 = .ok (.iconst 3, 1) := dk_6 (dk_at dksX50_reckonLoad_1 4 rfl rfl)
theorem dX50_reckonLoad_29 : decode cX50_reckonLoad 29 = .ok (.iload_n 1, 1) := dk_27 (dk_at dksX50_reckonLoad_1 5 rfl rfl)
theorem dX50_reckonLoad_30 : decode cX50_reckonLoad 30 = .ok (.imul, 1) := dk_104 (dk_at dksX50_reckonLoad_1 6 rfl rfl)
theorem dX50_reckonLoad_31 : decode cX50_reckonLoad 31 = .ok (.iload_n 2, 1) := dk_28 (dk_at dksX50_reckonLoad_1 7 rfl rfl)
theorem dX50_reckonLoad_32 : decode cX50_reckonLoad 32 = .ok (.iadd, 1) := dk_96 (dk_at dksX50_reckonLoad_1 8 rfl rfl)
theorem dX50_reckonLoad_33 : decode cX50_reckonLoad 33 = .ok (.laload, 1) := dk_47 (dk_at dksX50_reckonLoad_1 9 rfl rfl)
theorem dX50_reckonLoad_34 : decode cX50_reckonLoad 34 = .ok (.lastore, 1) := dk_80 (dk_at dksX50_reckonLoad_1 10 rfl rfl)
theorem dX50_reckonLoad_35 : decode cX50_reckonLoad 35 = .ok (.iinc 2 1, 3) := dk_132 2 1 (dk_at dksX50_reckonLoad_1 11 rfl rfl)
theorem dX50_reckonLoad_38 : decode cX50_reckonLoad 38 = .ok (.goto (-31), 3) := dk_167 255 225 (dk_at dksX50_reckonLoad_1 14 rfl rfl)
theorem dX50_reckonLoad_41 : decode cX50_reckonLoad 41 = .ok (.aload_n 0, 1) := dk_42 (dk_at dksX50_reckonLoad_1 17 rfl rfl)
theorem dX50_reckonLoad_42 : decode cX50_reckonLoad 42 = .ok (.iconst 1, 1) := dk_4 (dk_at dksX50_reckonLoad_1 18 rfl rfl)
theorem dX50_reckonLoad_43 : decode cX50_reckonLoad 43 = .ok (.iconst 0, 1) := dk_3 (dk_at dksX50_reckonLoad_1 19 rfl rfl)
theorem dX50_reckonLoad_44 : decode cX50_reckonLoad 44 = .ok (.invokevirtual 272, 3) := dk_182 1 16 (dk_at dksX50_reckonLoad_1 20 rfl rfl)
theorem dX50_reckonLoad_47 : decode cX50_reckonLoad 47 = .ok (.return_, 1) := dk_177 (dk_at dksX50_reckonLoad_1 23 rfl rfl)
abbrev cX50_span : ByteArray := prog_64_method_16_code
def yX50_span : MethodName := ⟨RX50, "span", "(IJJ)Z"⟩
def dkwX50_span_2 : List UInt8 := [180, 0, 48, 27, 22, 4, 80, 4, 172]
abbrev dktX50_span_2 : List UInt8 := dkwX50_span_2 ++ []
def dkwX50_span_1 : List UInt8 := [20, 0, 150, 148, 158, 0, 5, 3, 172, 42, 180, 0, 40, 27, 4, 84, 42, 180, 0, 44, 27, 32, 80, 42]
abbrev dktX50_span_1 : List UInt8 := dkwX50_span_1 ++ dktX50_span_2
def dkwX50_span_0 : List UInt8 := [42, 27, 182, 0, 125, 153, 0, 25, 32, 9, 148, 155, 0, 19, 32, 22, 4, 148, 157, 0, 12, 22, 4]
abbrev dktX50_span_0 : List UInt8 := dkwX50_span_0 ++ dktX50_span_1
theorem dksX50_span_0 : cX50_span.data.toList.drop 0 = dktX50_span_0 := by decide +kernel
theorem dksX50_span_1 : cX50_span.data.toList.drop 23 = dktX50_span_1 := dk_seg dksX50_span_0 23 rfl rfl
theorem dksX50_span_2 : cX50_span.data.toList.drop 47 = dktX50_span_2 := dk_seg dksX50_span_1 24 rfl rfl
theorem dX50_span_0 : decode cX50_span 0 = .ok (.aload_n 0, 1) := dk_42 (dk_at dksX50_span_0 0 rfl rfl)
theorem dX50_span_1 : decode cX50_span 1 = .ok (.iload_n 1, 1) := dk_27 (dk_at dksX50_span_0 1 rfl rfl)
theorem dX50_span_2 : decode cX50_span 2 = .ok (.invokevirtual 125, 3) := dk_182 0 125 (dk_at dksX50_span_0 2 rfl rfl)
theorem dX50_span_5 : decode cX50_span 5 = .ok (.ifCond .eq 25, 3) := dk_153 0 25 (dk_at dksX50_span_0 5 rfl rfl)
theorem dX50_span_8 : decode cX50_span 8 = .ok (.lload_n 2, 1) := dk_32 (dk_at dksX50_span_0 8 rfl rfl)
theorem dX50_span_9 : decode cX50_span 9 = .ok (.lconst 0, 1) := dk_9 (dk_at dksX50_span_0 9 rfl rfl)
theorem dX50_span_10 : decode cX50_span 10 = .ok (.lcmp, 1) := dk_148 (dk_at dksX50_span_0 10 rfl rfl)
theorem dX50_span_11 : decode cX50_span 11 = .ok (.ifCond .lt 19, 3) := dk_155 0 19 (dk_at dksX50_span_0 11 rfl rfl)
theorem dX50_span_14 : decode cX50_span 14 = .ok (.lload_n 2, 1) := dk_32 (dk_at dksX50_span_0 14 rfl rfl)
theorem dX50_span_15 : decode cX50_span 15 = .ok (.lload 4, 2) := dk_22 4 (dk_at dksX50_span_0 15 rfl rfl)
theorem dX50_span_17 : decode cX50_span 17 = .ok (.lcmp, 1) := dk_148 (dk_at dksX50_span_0 17 rfl rfl)
theorem dX50_span_18 : decode cX50_span 18 = .ok (.ifCond .gt 12, 3) := dk_157 0 12 (dk_at dksX50_span_0 18 rfl rfl)
theorem dX50_span_21 : decode cX50_span 21 = .ok (.lload 4, 2) := dk_22 4 (dk_at dksX50_span_0 21 rfl rfl)
theorem dX50_span_23 : decode cX50_span 23 = .ok (.ldc2_w 150, 3) := dk_20 0 150 (dk_at dksX50_span_1 0 rfl rfl)
theorem dX50_span_26 : decode cX50_span 26 = .ok (.lcmp, 1) := dk_148 (dk_at dksX50_span_1 3 rfl rfl)
theorem dX50_span_27 : decode cX50_span 27 = .ok (.ifCond .le 5, 3) := dk_158 0 5 (dk_at dksX50_span_1 4 rfl rfl)
theorem dX50_span_30 : decode cX50_span 30 = .ok (.iconst 0, 1) := dk_3 (dk_at dksX50_span_1 7 rfl rfl)
theorem dX50_span_31 : decode cX50_span 31 = .ok (.ireturn, 1) := dk_172 (dk_at dksX50_span_1 8 rfl rfl)
theorem dX50_span_32 : decode cX50_span 32 = .ok (.aload_n 0, 1) := dk_42 (dk_at dksX50_span_1 9 rfl rfl)
theorem dX50_span_33 : decode cX50_span 33 = .ok (.getfield 40, 3) := dk_180 0 40 (dk_at dksX50_span_1 10 rfl rfl)
theorem dX50_span_36 : decode cX50_span 36 = .ok (.iload_n 1, 1) := dk_27 (dk_at dksX50_span_1 13 rfl rfl)
theorem dX50_span_37 : decode cX50_span 37 = .ok (.iconst 1, 1) := dk_4 (dk_at dksX50_span_1 14 rfl rfl)
theorem dX50_span_38 : decode cX50_span 38 = .ok (.bastore, 1) := dk_84 (dk_at dksX50_span_1 15 rfl rfl)
theorem dX50_span_39 : decode cX50_span 39 = .ok (.aload_n 0, 1) := dk_42 (dk_at dksX50_span_1 16 rfl rfl)
theorem dX50_span_40 : decode cX50_span 40 = .ok (.getfield 44, 3) := dk_180 0 44 (dk_at dksX50_span_1 17 rfl rfl)
theorem dX50_span_43 : decode cX50_span 43 = .ok (.iload_n 1, 1) := dk_27 (dk_at dksX50_span_1 20 rfl rfl)
theorem dX50_span_44 : decode cX50_span 44 = .ok (.lload_n 2, 1) := dk_32 (dk_at dksX50_span_1 21 rfl rfl)
theorem dX50_span_45 : decode cX50_span 45 = .ok (.lastore, 1) := dk_80 (dk_at dksX50_span_1 22 rfl rfl)
theorem dX50_span_46 : decode cX50_span 46 = .ok (.aload_n 0, 1) := dk_42 (dk_at dksX50_span_1 23 rfl rfl)
theorem dX50_span_47 : decode cX50_span 47 = .ok (.getfield 48, 3) := dk_180 0 48 (dk_at dksX50_span_2 0 rfl rfl)
theorem dX50_span_50 : decode cX50_span 50 = .ok (.iload_n 1, 1) := dk_27 (dk_at dksX50_span_2 3 rfl rfl)
theorem dX50_span_51 : decode cX50_span 51 = .ok (.lload 4, 2) := dk_22 4 (dk_at dksX50_span_2 4 rfl rfl)
theorem dX50_span_53 : decode cX50_span 53 = .ok (.lastore, 1) := dk_80 (dk_at dksX50_span_2 6 rfl rfl)
theorem dX50_span_54 : decode cX50_span 54 = .ok (.iconst 1, 1) := dk_4 (dk_at dksX50_span_2 7 rfl rfl)
theorem dX50_span_55 : decode cX50_span 55 = .ok (.ireturn, 1) := dk_172 (dk_at dksX50_span_2 8 rfl rfl)
abbrev cX50_over : ByteArray := prog_64_method_56_code
def yX50_over : MethodName := ⟨RX50, "over", "(I)I"⟩
def dkwX50_over_1 : List UInt8 := [182, 1, 26, 153, 0, 13, 28, 27, 160, 0, 5, 29, 172, 132, 2, 1, 132, 3, 1, 167, 255, 218, 2, 172]
abbrev dktX50_over_1 : List UInt8 := dkwX50_over_1 ++ []
def dkwX50_over_0 : List UInt8 := [3, 61, 3, 62, 29, 42, 180, 0, 7, 4, 46, 162, 0, 34, 42, 180, 1, 4, 153, 0, 27, 42, 29]
abbrev dktX50_over_0 : List UInt8 := dkwX50_over_0 ++ dktX50_over_1
theorem dksX50_over_0 : cX50_over.data.toList.drop 0 = dktX50_over_0 := by decide +kernel
theorem dksX50_over_1 : cX50_over.data.toList.drop 23 = dktX50_over_1 := dk_seg dksX50_over_0 23 rfl rfl
theorem dX50_over_0 : decode cX50_over 0 = .ok (.iconst 0, 1) := dk_3 (dk_at dksX50_over_0 0 rfl rfl)
theorem dX50_over_1 : decode cX50_over 1 = .ok (.istore_n 2, 1) := dk_61 (dk_at dksX50_over_0 1 rfl rfl)
theorem dX50_over_2 : decode cX50_over 2 = .ok (.iconst 0, 1) := dk_3 (dk_at dksX50_over_0 2 rfl rfl)
theorem dX50_over_3 : decode cX50_over 3 = .ok (.istore_n 3, 1) := dk_62 (dk_at dksX50_over_0 3 rfl rfl)
theorem dX50_over_4 : decode cX50_over 4 = .ok (.iload_n 3, 1) := dk_29 (dk_at dksX50_over_0 4 rfl rfl)
theorem dX50_over_5 : decode cX50_over 5 = .ok (.aload_n 0, 1) := dk_42 (dk_at dksX50_over_0 5 rfl rfl)
theorem dX50_over_6 : decode cX50_over 6 = .ok (.getfield 7, 3) := dk_180 0 7 (dk_at dksX50_over_0 6 rfl rfl)
theorem dX50_over_9 : decode cX50_over 9 = .ok (.iconst 1, 1) := dk_4 (dk_at dksX50_over_0 9 rfl rfl)
theorem dX50_over_10 : decode cX50_over 10 = .ok (.iaload, 1) := dk_46 (dk_at dksX50_over_0 10 rfl rfl)
theorem dX50_over_11 : decode cX50_over 11 = .ok (.if_icmp .ge 34, 3) := dk_162 0 34 (dk_at dksX50_over_0 11 rfl rfl)
theorem dX50_over_14 : decode cX50_over 14 = .ok (.aload_n 0, 1) := dk_42 (dk_at dksX50_over_0 14 rfl rfl)
theorem dX50_over_15 : decode cX50_over 15 = .ok (.getfield 260, 3) := dk_180 1 4 (dk_at dksX50_over_0 15 rfl rfl)
theorem dX50_over_18 : decode cX50_over 18 = .ok (.ifCond .eq 27, 3) := dk_153 0 27 (dk_at dksX50_over_0 18 rfl rfl)
theorem dX50_over_21 : decode cX50_over 21 = .ok (.aload_n 0, 1) := dk_42 (dk_at dksX50_over_0 21 rfl rfl)
theorem dX50_over_22 : decode cX50_over 22 = .ok (.iload_n 3, 1) := dk_29 (dk_at dksX50_over_0 22 rfl rfl)
theorem dX50_over_23 : decode cX50_over 23 = .ok (.invokevirtual 282, 3) := dk_182 1 26 (dk_at dksX50_over_1 0 rfl rfl)
theorem dX50_over_26 : decode cX50_over 26 = .ok (.ifCond .eq 13, 3) := dk_153 0 13 (dk_at dksX50_over_1 3 rfl rfl)
theorem dX50_over_29 : decode cX50_over 29 = .ok (.iload_n 2, 1) := dk_28 (dk_at dksX50_over_1 6 rfl rfl)
theorem dX50_over_30 : decode cX50_over 30 = .ok (.iload_n 1, 1) := dk_27 (dk_at dksX50_over_1 7 rfl rfl)
theorem dX50_over_31 : decode cX50_over 31 = .ok (.if_icmp .ne 5, 3) := dk_160 0 5 (dk_at dksX50_over_1 8 rfl rfl)
theorem dX50_over_34 : decode cX50_over 34 = .ok (.iload_n 3, 1) := dk_29 (dk_at dksX50_over_1 11 rfl rfl)
theorem dX50_over_35 : decode cX50_over 35 = .ok (.ireturn, 1) := dk_172 (dk_at dksX50_over_1 12 rfl rfl)
theorem dX50_over_36 : decode cX50_over 36 = .ok (.iinc 2 1, 3) := dk_132 2 1 (dk_at dksX50_over_1 13 rfl rfl)
theorem dX50_over_39 : decode cX50_over 39 = .ok (.iinc 3 1, 3) := dk_132 3 1 (dk_at dksX50_over_1 16 rfl rfl)
theorem dX50_over_42 : decode cX50_over 42 = .ok (.goto (-38), 3) := dk_167 255 218 (dk_at dksX50_over_1 19 rfl rfl)
theorem dX50_over_45 : decode cX50_over 45 = .ok (.iconst (-1), 1) := dk_2 (dk_at dksX50_over_1 22 rfl rfl)
theorem dX50_over_46 : decode cX50_over 46 = .ok (.ireturn, 1) := dk_172 (dk_at dksX50_over_1 23 rfl rfl)
abbrev cX50_isOver : ByteArray := prog_64_method_55_code
def yX50_isOver : MethodName := ⟨RX50, "isOver", "(I)Z"⟩
def dkwX50_isOver_3 : List UInt8 := [167, 0, 4, 3, 172]
abbrev dktX50_isOver_3 : List UInt8 := dkwX50_isOver_3 ++ []
def dkwX50_isOver_2 : List UInt8 := [148, 157, 0, 22, 32, 42, 180, 0, 48, 27, 47, 148, 154, 0, 15, 42, 5, 182, 0, 229, 154, 0, 7, 4]
abbrev dktX50_isOver_2 : List UInt8 := dkwX50_isOver_2 ++ dktX50_isOver_3
def dkwX50_isOver_1 : List UInt8 := [180, 0, 206, 154, 0, 44, 32, 42, 180, 0, 44, 27, 47, 148, 155, 0, 33, 32, 42, 180, 0, 48, 27, 47]
abbrev dktX50_isOver_1 : List UInt8 := dkwX50_isOver_1 ++ dktX50_isOver_2
def dkwX50_isOver_0 : List UInt8 := [42, 180, 0, 40, 27, 51, 154, 0, 5, 3, 172, 42, 27, 182, 1, 23, 42, 3, 182, 0, 225, 65, 42]
abbrev dktX50_isOver_0 : List UInt8 := dkwX50_isOver_0 ++ dktX50_isOver_1
theorem dksX50_isOver_0 : cX50_isOver.data.toList.drop 0 = dktX50_isOver_0 := by decide +kernel
theorem dksX50_isOver_1 : cX50_isOver.data.toList.drop 23 = dktX50_isOver_1 := dk_seg dksX50_isOver_0 23 rfl rfl
theorem dksX50_isOver_2 : cX50_isOver.data.toList.drop 47 = dktX50_isOver_2 := dk_seg dksX50_isOver_1 24 rfl rfl
theorem dksX50_isOver_3 : cX50_isOver.data.toList.drop 71 = dktX50_isOver_3 := dk_seg dksX50_isOver_2 24 rfl rfl
theorem dX50_isOver_0 : decode cX50_isOver 0 = .ok (.aload_n 0, 1) := dk_42 (dk_at dksX50_isOver_0 0 rfl rfl)
theorem dX50_isOver_1 : decode cX50_isOver 1 = .ok (.getfield 40, 3) := dk_180 0 40 (dk_at dksX50_isOver_0 1 rfl rfl)
theorem dX50_isOver_4 : decode cX50_isOver 4 = .ok (.iload_n 1, 1) := dk_27 (dk_at dksX50_isOver_0 4 rfl rfl)
theorem dX50_isOver_5 : decode cX50_isOver 5 = .ok (.baload, 1) := dk_51 (dk_at dksX50_isOver_0 5 rfl rfl)
theorem dX50_isOver_6 : decode cX50_isOver 6 = .ok (.ifCond .ne 5, 3) := dk_154 0 5 (dk_at dksX50_isOver_0 6 rfl rfl)
theorem dX50_isOver_9 : decode cX50_isOver 9 = .ok (.iconst 0, 1) := dk_3 (dk_at dksX50_isOver_0 9 rfl rfl)
theorem dX50_isOver_10 : decode cX50_isOver 10 = .ok (.ireturn, 1) := dk_172 (dk_at dksX50_isOver_0 10 rfl rfl)
theorem dX50_isOver_11 : decode cX50_isOver 11 = .ok (.aload_n 0, 1) := dk_42 (dk_at dksX50_isOver_0 11 rfl rfl)
theorem dX50_isOver_12 : decode cX50_isOver 12 = .ok (.iload_n 1, 1) := dk_27 (dk_at dksX50_isOver_0 12 rfl rfl)
theorem dX50_isOver_13 : decode cX50_isOver 13 = .ok (.invokevirtual 279, 3) := dk_182 1 23 (dk_at dksX50_isOver_0 13 rfl rfl)
theorem dX50_isOver_16 : decode cX50_isOver 16 = .ok (.aload_n 0, 1) := dk_42 (dk_at dksX50_isOver_0 16 rfl rfl)
theorem dX50_isOver_17 : decode cX50_isOver 17 = .ok (.iconst 0, 1) := dk_3 (dk_at dksX50_isOver_0 17 rfl rfl)
theorem dX50_isOver_18 : decode cX50_isOver 18 = .ok (.invokevirtual 225, 3) := dk_182 0 225 (dk_at dksX50_isOver_0 18 rfl rfl)
theorem dX50_isOver_21 : decode cX50_isOver 21 = .ok (.lstore_n 2, 1) := dk_65 (dk_at dksX50_isOver_0 21 rfl rfl)
theorem dX50_isOver_22 : decode cX50_isOver 22 = .ok (.aload_n 0, 1) := dk_42 (dk_at dksX50_isOver_0 22 rfl rfl)
theorem dX50_isOver_23 : decode cX50_isOver 23 = .ok (.getfield 206, 3) := dk_180 0 206 (dk_at dksX50_isOver_1 0 rfl rfl)
theorem dX50_isOver_26 : decode cX50_isOver 26 = .ok (.ifCond .ne 44, 3) := dk_154 0 44 (dk_at dksX50_isOver_1 3 rfl rfl)
theorem dX50_isOver_29 : decode cX50_isOver 29 = .ok (.lload_n 2, 1) := dk_32 (dk_at dksX50_isOver_1 6 rfl rfl)
theorem dX50_isOver_30 : decode cX50_isOver 30 = .ok (.aload_n 0, 1) := dk_42 (dk_at dksX50_isOver_1 7 rfl rfl)
theorem dX50_isOver_31 : decode cX50_isOver 31 = .ok (.getfield 44, 3) := dk_180 0 44 (dk_at dksX50_isOver_1 8 rfl rfl)
theorem dX50_isOver_34 : decode cX50_isOver 34 = .ok (.iload_n 1, 1) := dk_27 (dk_at dksX50_isOver_1 11 rfl rfl)
theorem dX50_isOver_35 : decode cX50_isOver 35 = .ok (.laload, 1) := dk_47 (dk_at dksX50_isOver_1 12 rfl rfl)
theorem dX50_isOver_36 : decode cX50_isOver 36 = .ok (.lcmp, 1) := dk_148 (dk_at dksX50_isOver_1 13 rfl rfl)
theorem dX50_isOver_37 : decode cX50_isOver 37 = .ok (.ifCond .lt 33, 3) := dk_155 0 33 (dk_at dksX50_isOver_1 14 rfl rfl)
theorem dX50_isOver_40 : decode cX50_isOver 40 = .ok (.lload_n 2, 1) := dk_32 (dk_at dksX50_isOver_1 17 rfl rfl)
theorem dX50_isOver_41 : decode cX50_isOver 41 = .ok (.aload_n 0, 1) := dk_42 (dk_at dksX50_isOver_1 18 rfl rfl)
theorem dX50_isOver_42 : decode cX50_isOver 42 = .ok (.getfield 48, 3) := dk_180 0 48 (dk_at dksX50_isOver_1 19 rfl rfl)
theorem dX50_isOver_45 : decode cX50_isOver 45 = .ok (.iload_n 1, 1) := dk_27 (dk_at dksX50_isOver_1 22 rfl rfl)
theorem dX50_isOver_46 : decode cX50_isOver 46 = .ok (.laload, 1) := dk_47 (dk_at dksX50_isOver_1 23 rfl rfl)
theorem dX50_isOver_47 : decode cX50_isOver 47 = .ok (.lcmp, 1) := dk_148 (dk_at dksX50_isOver_2 0 rfl rfl)
theorem dX50_isOver_48 : decode cX50_isOver 48 = .ok (.ifCond .gt 22, 3) := dk_157 0 22 (dk_at dksX50_isOver_2 1 rfl rfl)
theorem dX50_isOver_51 : decode cX50_isOver 51 = .ok (.lload_n 2, 1) := dk_32 (dk_at dksX50_isOver_2 4 rfl rfl)
theorem dX50_isOver_52 : decode cX50_isOver 52 = .ok (.aload_n 0, 1) := dk_42 (dk_at dksX50_isOver_2 5 rfl rfl)
theorem dX50_isOver_53 : decode cX50_isOver 53 = .ok (.getfield 48, 3) := dk_180 0 48 (dk_at dksX50_isOver_2 6 rfl rfl)
theorem dX50_isOver_56 : decode cX50_isOver 56 = .ok (.iload_n 1, 1) := dk_27 (dk_at dksX50_isOver_2 9 rfl rfl)
theorem dX50_isOver_57 : decode cX50_isOver 57 = .ok (.laload, 1) := dk_47 (dk_at dksX50_isOver_2 10 rfl rfl)
theorem dX50_isOver_58 : decode cX50_isOver 58 = .ok (.lcmp, 1) := dk_148 (dk_at dksX50_isOver_2 11 rfl rfl)
theorem dX50_isOver_59 : decode cX50_isOver 59 = .ok (.ifCond .ne 15, 3) := dk_154 0 15 (dk_at dksX50_isOver_2 12 rfl rfl)
theorem dX50_isOver_62 : decode cX50_isOver 62 = .ok (.aload_n 0, 1) := dk_42 (dk_at dksX50_isOver_2 15 rfl rfl)
theorem dX50_isOver_63 : decode cX50_isOver 63 = .ok (.iconst 2, 1) := dk_5 (dk_at dksX50_isOver_2 16 rfl rfl)
theorem dX50_isOver_64 : decode cX50_isOver 64 = .ok (.invokevirtual 229, 3) := dk_182 0 229 (dk_at dksX50_isOver_2 17 rfl rfl)
theorem dX50_isOver_67 : decode cX50_isOver 67 = .ok (.ifCond .ne 7, 3) := dk_154 0 7 (dk_at dksX50_isOver_2 20 rfl rfl)
theorem dX50_isOver_70 : decode cX50_isOver 70 = .ok (.iconst 1, 1) := dk_4 (dk_at dksX50_isOver_2 23 rfl rfl)
theorem dX50_isOver_71 : decode cX50_isOver 71 = .ok (.goto 4, 3) := dk_167 0 4 (dk_at dksX50_isOver_3 0 rfl rfl)
theorem dX50_isOver_74 : decode cX50_isOver 74 = .ok (.iconst 0, 1) := dk_3 (dk_at dksX50_isOver_3 3 rfl rfl)
theorem dX50_isOver_75 : decode cX50_isOver 75 = .ok (.ireturn, 1) := dk_172 (dk_at dksX50_isOver_3 4 rfl rfl)
abbrev cX50_slope : ByteArray := prog_64_method_58_code
def yX50_slope : MethodName := ⟨RX50, "slope", "(IIIII)J"⟩
def dkwX50_slope_10 : List UInt8 := [7, 4, 182, 1, 39, 42, 21, 5, 21, 6, 182, 1, 19, 173]
abbrev dktX50_slope_10 : List UInt8 := dkwX50_slope_10 ++ []
def dkwX50_slope_9 : List UInt8 := [167, 0, 9, 42, 6, 7, 182, 0, 236, 42, 8, 6, 3, 182, 1, 39, 42, 4, 7, 182, 0, 232, 42, 7]
abbrev dktX50_slope_9 : List UInt8 := dkwX50_slope_9 ++ dktX50_slope_10
def dkwX50_slope_8 : List UInt8 := [182, 1, 36, 54, 6, 21, 6, 153, 0, 18, 42, 7, 6, 182, 0, 236, 42, 7, 6, 182, 0, 232]
abbrev dktX50_slope_8 : List UInt8 := dkwX50_slope_8 ++ dktX50_slope_9
def dkwX50_slope_7 : List UInt8 := [182, 1, 32, 42, 27, 28, 42, 180, 0, 16, 27, 46, 4, 100, 21, 4, 7, 182, 1, 32, 42, 6, 7]
abbrev dktX50_slope_7 : List UInt8 := dkwX50_slope_7 ++ dktX50_slope_8
def dkwX50_slope_6 : List UInt8 := [182, 1, 16, 42, 182, 0, 254, 42, 3, 21, 4, 2, 182, 1, 13, 42, 27, 28, 29, 21, 4, 6]
abbrev dktX50_slope_6 : List UInt8 := dkwX50_slope_6 ++ dktX50_slope_7
def dkwX50_slope_5 : List UInt8 := [104, 21, 7, 96, 47, 97, 80, 132, 8, 1, 167, 255, 215, 132, 6, 1, 167, 255, 189, 42, 3, 8]
abbrev dktX50_slope_5 : List UInt8 := dkwX50_slope_5 ++ dktX50_slope_6
def dkwX50_slope_4 : List UInt8 := [46, 162, 0, 36, 42, 180, 0, 87, 21, 7, 92, 47, 42, 180, 0, 60, 16, 9, 6, 21, 8, 104, 28, 96]
abbrev dktX50_slope_4 : List UInt8 := dkwX50_slope_4 ++ dktX50_slope_5
def dkwX50_slope_3 : List UInt8 := [180, 0, 97, 162, 0, 64, 6, 27, 104, 21, 6, 96, 54, 7, 3, 54, 8, 21, 8, 42, 180, 0, 16, 27]
abbrev dktX50_slope_3 : List UInt8 := dkwX50_slope_3 ++ dktX50_slope_4
def dkwX50_slope_2 : List UInt8 := [42, 3, 182, 1, 1, 155, 0, 7, 20, 0, 223, 173, 42, 3, 182, 1, 10, 3, 54, 6, 21, 6, 42]
abbrev dktX50_slope_2 : List UInt8 := dkwX50_slope_2 ++ dktX50_slope_3
def dkwX50_slope_1 : List UInt8 := [162, 0, 15, 21, 5, 155, 0, 10, 21, 5, 16, 6, 164, 0, 7, 20, 0, 223, 173, 42, 3, 182, 0, 242]
abbrev dktX50_slope_1 : List UInt8 := dkwX50_slope_1 ++ dktX50_slope_2
def dkwX50_slope_0 : List UInt8 := [42, 27, 28, 29, 182, 0, 136, 153, 0, 31, 21, 4, 155, 0, 26, 21, 4, 42, 180, 0, 13, 3, 46]
abbrev dktX50_slope_0 : List UInt8 := dkwX50_slope_0 ++ dktX50_slope_1
theorem dksX50_slope_0 : cX50_slope.data.toList.drop 0 = dktX50_slope_0 := by decide +kernel
theorem dksX50_slope_1 : cX50_slope.data.toList.drop 23 = dktX50_slope_1 := dk_seg dksX50_slope_0 23 rfl rfl
theorem dksX50_slope_2 : cX50_slope.data.toList.drop 47 = dktX50_slope_2 := dk_seg dksX50_slope_1 24 rfl rfl
theorem dksX50_slope_3 : cX50_slope.data.toList.drop 70 = dktX50_slope_3 := dk_seg dksX50_slope_2 23 rfl rfl
theorem dksX50_slope_4 : cX50_slope.data.toList.drop 94 = dktX50_slope_4 := dk_seg dksX50_slope_3 24 rfl rfl
theorem dksX50_slope_5 : cX50_slope.data.toList.drop 118 = dktX50_slope_5 := dk_seg dksX50_slope_4 24 rfl rfl
theorem dksX50_slope_6 : cX50_slope.data.toList.drop 140 = dktX50_slope_6 := dk_seg dksX50_slope_5 22 rfl rfl
theorem dksX50_slope_7 : cX50_slope.data.toList.drop 162 = dktX50_slope_7 := dk_seg dksX50_slope_6 22 rfl rfl
theorem dksX50_slope_8 : cX50_slope.data.toList.drop 185 = dktX50_slope_8 := dk_seg dksX50_slope_7 23 rfl rfl
theorem dksX50_slope_9 : cX50_slope.data.toList.drop 207 = dktX50_slope_9 := dk_seg dksX50_slope_8 22 rfl rfl
theorem dksX50_slope_10 : cX50_slope.data.toList.drop 231 = dktX50_slope_10 := dk_seg dksX50_slope_9 24 rfl rfl
theorem dX50_slope_0 : decode cX50_slope 0 = .ok (.aload_n 0, 1) := dk_42 (dk_at dksX50_slope_0 0 rfl rfl)
theorem dX50_slope_1 : decode cX50_slope 1 = .ok (.iload_n 1, 1) := dk_27 (dk_at dksX50_slope_0 1 rfl rfl)
theorem dX50_slope_2 : decode cX50_slope 2 = .ok (.iload_n 2, 1) := dk_28 (dk_at dksX50_slope_0 2 rfl rfl)
theorem dX50_slope_3 : decode cX50_slope 3 = .ok (.iload_n 3, 1) := dk_29 (dk_at dksX50_slope_0 3 rfl rfl)
theorem dX50_slope_4 : decode cX50_slope 4 = .ok (.invokevirtual 136, 3) := dk_182 0 136 (dk_at dksX50_slope_0 4 rfl rfl)
theorem dX50_slope_7 : decode cX50_slope 7 = .ok (.ifCond .eq 31, 3) := dk_153 0 31 (dk_at dksX50_slope_0 7 rfl rfl)
theorem dX50_slope_10 : decode cX50_slope 10 = .ok (.iload 4, 2) := dk_21 4 (dk_at dksX50_slope_0 10 rfl rfl)
theorem dX50_slope_12 : decode cX50_slope 12 = .ok (.ifCond .lt 26, 3) := dk_155 0 26 (dk_at dksX50_slope_0 12 rfl rfl)
theorem dX50_slope_15 : decode cX50_slope 15 = .ok (.iload 4, 2) := dk_21 4 (dk_at dksX50_slope_0 15 rfl rfl)
theorem dX50_slope_17 : decode cX50_slope 17 = .ok (.aload_n 0, 1) := dk_42 (dk_at dksX50_slope_0 17 rfl rfl)
theorem dX50_slope_18 : decode cX50_slope 18 = .ok (.getfield 13, 3) := dk_180 0 13 (dk_at dksX50_slope_0 18 rfl rfl)
theorem dX50_slope_21 : decode cX50_slope 21 = .ok (.iconst 0, 1) := dk_3 (dk_at dksX50_slope_0 21 rfl rfl)
theorem dX50_slope_22 : decode cX50_slope 22 = .ok (.iaload, 1) := dk_46 (dk_at dksX50_slope_0 22 rfl rfl)
theorem dX50_slope_23 : decode cX50_slope 23 = .ok (.if_icmp .ge 15, 3) := dk_162 0 15 (dk_at dksX50_slope_1 0 rfl rfl)
theorem dX50_slope_26 : decode cX50_slope 26 = .ok (.iload 5, 2) := dk_21 5 (dk_at dksX50_slope_1 3 rfl rfl)
theorem dX50_slope_28 : decode cX50_slope 28 = .ok (.ifCond .lt 10, 3) := dk_155 0 10 (dk_at dksX50_slope_1 5 rfl rfl)
theorem dX50_slope_31 : decode cX50_slope 31 = .ok (.iload 5, 2) := dk_21 5 (dk_at dksX50_slope_1 8 rfl rfl)
theorem dX50_slope_33 : decode cX50_slope 33 = .ok (.bipush 6, 2) := dk_16 6 (dk_at dksX50_slope_1 10 rfl rfl)
theorem dX50_slope_35 : decode cX50_slope 35 = .ok (.if_icmp .le 7, 3) := dk_164 0 7 (dk_at dksX50_slope_1 12 rfl rfl)
theorem dX50_slope_38 : decode cX50_slope 38 = .ok (.ldc2_w 223, 3) := dk_20 0 223 (dk_at dksX50_slope_1 15 rfl rfl)
theorem dX50_slope_41 : decode cX50_slope 41 = .ok (.lreturn, 1) := dk_173 (dk_at dksX50_slope_1 18 rfl rfl)
theorem dX50_slope_42 : decode cX50_slope 42 = .ok (.aload_n 0, 1) := dk_42 (dk_at dksX50_slope_1 19 rfl rfl)
theorem dX50_slope_43 : decode cX50_slope 43 = .ok (.iconst 0, 1) := dk_3 (dk_at dksX50_slope_1 20 rfl rfl)
theorem dX50_slope_44 : decode cX50_slope 44 = .ok (.invokevirtual 242, 3) := dk_182 0 242 (dk_at dksX50_slope_1 21 rfl rfl)
theorem dX50_slope_47 : decode cX50_slope 47 = .ok (.aload_n 0, 1) := dk_42 (dk_at dksX50_slope_2 0 rfl rfl)
theorem dX50_slope_48 : decode cX50_slope 48 = .ok (.iconst 0, 1) := dk_3 (dk_at dksX50_slope_2 1 rfl rfl)
theorem dX50_slope_49 : decode cX50_slope 49 = .ok (.invokevirtual 257, 3) := dk_182 1 1 (dk_at dksX50_slope_2 2 rfl rfl)
theorem dX50_slope_52 : decode cX50_slope 52 = .ok (.ifCond .lt 7, 3) := dk_155 0 7 (dk_at dksX50_slope_2 5 rfl rfl)
theorem dX50_slope_55 : decode cX50_slope 55 = .ok (.ldc2_w 223, 3) := dk_20 0 223 (dk_at dksX50_slope_2 8 rfl rfl)
theorem dX50_slope_58 : decode cX50_slope 58 = .ok (.lreturn, 1) := dk_173 (dk_at dksX50_slope_2 11 rfl rfl)
theorem dX50_slope_59 : decode cX50_slope 59 = .ok (.aload_n 0, 1) := dk_42 (dk_at dksX50_slope_2 12 rfl rfl)
theorem dX50_slope_60 : decode cX50_slope 60 = .ok (.iconst 0, 1) := dk_3 (dk_at dksX50_slope_2 13 rfl rfl)
theorem dX50_slope_61 : decode cX50_slope 61 = .ok (.invokevirtual 266, 3) := dk_182 1 10 (dk_at dksX50_slope_2 14 rfl rfl)
theorem dX50_slope_64 : decode cX50_slope 64 = .ok (.iconst 0, 1) := dk_3 (dk_at dksX50_slope_2 17 rfl rfl)
theorem dX50_slope_65 : decode cX50_slope 65 = .ok (.istore 6, 2) := dk_54 6 (dk_at dksX50_slope_2 18 rfl rfl)
theorem dX50_slope_67 : decode cX50_slope 67 = .ok (.iload 6, 2) := dk_21 6 (dk_at dksX50_slope_2 20 rfl rfl)
theorem dX50_slope_69 : decode cX50_slope 69 = .ok (.aload_n 0, 1) := dk_42 (dk_at dksX50_slope_2 22 rfl rfl)
theorem dX50_slope_70 : decode cX50_slope 70 = .ok (.getfield 97, 3) := dk_180 0 97 (dk_at dksX50_slope_3 0 rfl rfl)
theorem dX50_slope_73 : decode cX50_slope 73 = .ok (.if_icmp .ge 64, 3) := dk_162 0 64 (dk_at dksX50_slope_3 3 rfl rfl)
theorem dX50_slope_76 : decode cX50_slope 76 = .ok (.iconst 3, 1) := dk_6 (dk_at dksX50_slope_3 6 rfl rfl)
theorem dX50_slope_77 : decode cX50_slope 77 = .ok (.iload_n 1, 1) := dk_27 (dk_at dksX50_slope_3 7 rfl rfl)
theorem dX50_slope_78 : decode cX50_slope 78 = .ok (.imul, 1) := dk_104 (dk_at dksX50_slope_3 8 rfl rfl)
theorem dX50_slope_79 : decode cX50_slope 79 = .ok (.iload 6, 2) := dk_21 6 (dk_at dksX50_slope_3 9 rfl rfl)
theorem dX50_slope_81 : decode cX50_slope 81 = .ok (.iadd, 1) := dk_96 (dk_at dksX50_slope_3 11 rfl rfl)
theorem dX50_slope_82 : decode cX50_slope 82 = .ok (.istore 7, 2) := dk_54 7 (dk_at dksX50_slope_3 12 rfl rfl)
theorem dX50_slope_84 : decode cX50_slope 84 = .ok (.iconst 0, 1) := dk_3 (dk_at dksX50_slope_3 14 rfl rfl)
theorem dX50_slope_85 : decode cX50_slope 85 = .ok (.istore 8, 2) := dk_54 8 (dk_at dksX50_slope_3 15 rfl rfl)
theorem dX50_slope_87 : decode cX50_slope 87 = .ok (.iload 8, 2) := dk_21 8 (dk_at dksX50_slope_3 17 rfl rfl)
theorem dX50_slope_89 : decode cX50_slope 89 = .ok (.aload_n 0, 1) := dk_42 (dk_at dksX50_slope_3 19 rfl rfl)
theorem dX50_slope_90 : decode cX50_slope 90 = .ok (.getfield 16, 3) := dk_180 0 16 (dk_at dksX50_slope_3 20 rfl rfl)
theorem dX50_slope_93 : decode cX50_slope 93 = .ok (.iload_n 1, 1) := dk_27 (dk_at dksX50_slope_3 23 rfl rfl)
theorem dX50_slope_94 : decode cX50_slope 94 = .ok (.iaload, 1) := dk_46 (dk_at dksX50_slope_4 0 rfl rfl)
theorem dX50_slope_95 : decode cX50_slope 95 = .ok (.if_icmp .ge 36, 3) := dk_162 0 36 (dk_at dksX50_slope_4 1 rfl rfl)
theorem dX50_slope_98 : decode cX50_slope 98 = .ok (.aload_n 0, 1) := dk_42 (dk_at dksX50_slope_4 4 rfl rfl)
theorem dX50_slope_99 : decode cX50_slope 99 = .ok (.getfield 87, 3) := dk_180 0 87 (dk_at dksX50_slope_4 5 rfl rfl)
theorem dX50_slope_102 : decode cX50_slope 102 = .ok (.iload 7, 2) := dk_21 7 (dk_at dksX50_slope_4 8 rfl rfl)
theorem dX50_slope_104 : decode cX50_slope 104 = .ok (.dup2, 1) := dk_92 (dk_at dksX50_slope_4 10 rfl rfl)
theorem dX50_slope_105 : decode cX50_slope 105 = .ok (.laload, 1) := dk_47 (dk_at dksX50_slope_4 11 rfl rfl)
theorem dX50_slope_106 : decode cX50_slope 106 = .ok (.aload_n 0, 1) := dk_42 (dk_at dksX50_slope_4 12 rfl rfl)
theorem dX50_slope_107 : decode cX50_slope 107 = .ok (.getfield 60, 3) := dk_180 0 60 (dk_at dksX50_slope_4 13 rfl rfl)
theorem dX50_slope_110 : decode cX50_slope 110 = .ok (.bipush 9, 2) := dk_16 9 (dk_at dksX50_slope_4 16 rfl rfl)
theorem dX50_slope_112 : decode cX50_slope 112 = .ok (.iconst 3, 1) := dk_6 (dk_at dksX50_slope_4 18 rfl rfl)
theorem dX50_slope_113 : decode cX50_slope 113 = .ok (.iload 8, 2) := dk_21 8 (dk_at dksX50_slope_4 19 rfl rfl)
theorem dX50_slope_115 : decode cX50_slope 115 = .ok (.imul, 1) := dk_104 (dk_at dksX50_slope_4 21 rfl rfl)
theorem dX50_slope_116 : decode cX50_slope 116 = .ok (.iload_n 2, 1) := dk_28 (dk_at dksX50_slope_4 22 rfl rfl)
theorem dX50_slope_117 : decode cX50_slope 117 = .ok (.iadd, 1) := dk_96 (dk_at dksX50_slope_4 23 rfl rfl)
theorem dX50_slope_118 : decode cX50_slope 118 = .ok (.imul, 1) := dk_104 (dk_at dksX50_slope_5 0 rfl rfl)
theorem dX50_slope_119 : decode cX50_slope 119 = .ok (.iload 7, 2) := dk_21 7 (dk_at dksX50_slope_5 1 rfl rfl)
theorem dX50_slope_121 : decode cX50_slope 121 = .ok (.iadd, 1) := dk_96 (dk_at dksX50_slope_5 3 rfl rfl)
theorem dX50_slope_122 : decode cX50_slope 122 = .ok (.laload, 1) := dk_47 (dk_at dksX50_slope_5 4 rfl rfl)
theorem dX50_slope_123 : decode cX50_slope 123 = .ok (.ladd, 1) := dk_97 (dk_at dksX50_slope_5 5 rfl rfl)
theorem dX50_slope_124 : decode cX50_slope 124 = .ok (.lastore, 1) := dk_80 (dk_at dksX50_slope_5 6 rfl rfl)
theorem dX50_slope_125 : decode cX50_slope 125 = .ok (.iinc 8 1, 3) := dk_132 8 1 (dk_at dksX50_slope_5 7 rfl rfl)
theorem dX50_slope_128 : decode cX50_slope 128 = .ok (.goto (-41), 3) := dk_167 255 215 (dk_at dksX50_slope_5 10 rfl rfl)
theorem dX50_slope_131 : decode cX50_slope 131 = .ok (.iinc 6 1, 3) := dk_132 6 1 (dk_at dksX50_slope_5 13 rfl rfl)
theorem dX50_slope_134 : decode cX50_slope 134 = .ok (.goto (-67), 3) := dk_167 255 189 (dk_at dksX50_slope_5 16 rfl rfl)
theorem dX50_slope_137 : decode cX50_slope 137 = .ok (.aload_n 0, 1) := dk_42 (dk_at dksX50_slope_5 19 rfl rfl)
theorem dX50_slope_138 : decode cX50_slope 138 = .ok (.iconst 0, 1) := dk_3 (dk_at dksX50_slope_5 20 rfl rfl)
theorem dX50_slope_139 : decode cX50_slope 139 = .ok (.iconst 5, 1) := dk_8 (dk_at dksX50_slope_5 21 rfl rfl)
theorem dX50_slope_140 : decode cX50_slope 140 = .ok (.invokevirtual 272, 3) := dk_182 1 16 (dk_at dksX50_slope_6 0 rfl rfl)
theorem dX50_slope_143 : decode cX50_slope 143 = .ok (.aload_n 0, 1) := dk_42 (dk_at dksX50_slope_6 3 rfl rfl)
theorem dX50_slope_144 : decode cX50_slope 144 = .ok (.invokevirtual 254, 3) := dk_182 0 254 (dk_at dksX50_slope_6 4 rfl rfl)
theorem dX50_slope_147 : decode cX50_slope 147 = .ok (.aload_n 0, 1) := dk_42 (dk_at dksX50_slope_6 7 rfl rfl)
theorem dX50_slope_148 : decode cX50_slope 148 = .ok (.iconst 0, 1) := dk_3 (dk_at dksX50_slope_6 8 rfl rfl)
theorem dX50_slope_149 : decode cX50_slope 149 = .ok (.iload 4, 2) := dk_21 4 (dk_at dksX50_slope_6 9 rfl rfl)
theorem dX50_slope_151 : decode cX50_slope 151 = .ok (.iconst (-1), 1) := dk_2 (dk_at dksX50_slope_6 11 rfl rfl)
theorem dX50_slope_152 : decode cX50_slope 152 = .ok (.invokevirtual 269, 3) := dk_182 1 13 (dk_at dksX50_slope_6 12 rfl rfl)
theorem dX50_slope_155 : decode cX50_slope 155 = .ok (.aload_n 0, 1) := dk_42 (dk_at dksX50_slope_6 15 rfl rfl)
theorem dX50_slope_156 : decode cX50_slope 156 = .ok (.iload_n 1, 1) := dk_27 (dk_at dksX50_slope_6 16 rfl rfl)
theorem dX50_slope_157 : decode cX50_slope 157 = .ok (.iload_n 2, 1) := dk_28 (dk_at dksX50_slope_6 17 rfl rfl)
theorem dX50_slope_158 : decode cX50_slope 158 = .ok (.iload_n 3, 1) := dk_29 (dk_at dksX50_slope_6 18 rfl rfl)
theorem dX50_slope_159 : decode cX50_slope 159 = .ok (.iload 4, 2) := dk_21 4 (dk_at dksX50_slope_6 19 rfl rfl)
theorem dX50_slope_161 : decode cX50_slope 161 = .ok (.iconst 3, 1) := dk_6 (dk_at dksX50_slope_6 21 rfl rfl)
theorem dX50_slope_162 : decode cX50_slope 162 = .ok (.invokevirtual 288, 3) := dk_182 1 32 (dk_at dksX50_slope_7 0 rfl rfl)
theorem dX50_slope_165 : decode cX50_slope 165 = .ok (.aload_n 0, 1) := dk_42 (dk_at dksX50_slope_7 3 rfl rfl)
theorem dX50_slope_166 : decode cX50_slope 166 = .ok (.iload_n 1, 1) := dk_27 (dk_at dksX50_slope_7 4 rfl rfl)
theorem dX50_slope_167 : decode cX50_slope 167 = .ok (.iload_n 2, 1) := dk_28 (dk_at dksX50_slope_7 5 rfl rfl)
theorem dX50_slope_168 : decode cX50_slope 168 = .ok (.aload_n 0, 1) := dk_42 (dk_at dksX50_slope_7 6 rfl rfl)
theorem dX50_slope_169 : decode cX50_slope 169 = .ok (.getfield 16, 3) := dk_180 0 16 (dk_at dksX50_slope_7 7 rfl rfl)
theorem dX50_slope_172 : decode cX50_slope 172 = .ok (.iload_n 1, 1) := dk_27 (dk_at dksX50_slope_7 10 rfl rfl)
theorem dX50_slope_173 : decode cX50_slope 173 = .ok (.iaload, 1) := dk_46 (dk_at dksX50_slope_7 11 rfl rfl)
theorem dX50_slope_174 : decode cX50_slope 174 = .ok (.iconst 1, 1) := dk_4 (dk_at dksX50_slope_7 12 rfl rfl)
theorem dX50_slope_175 : decode cX50_slope 175 = .ok (.isub, 1) := dk_100 (dk_at dksX50_slope_7 13 rfl rfl)
theorem dX50_slope_176 : decode cX50_slope 176 = .ok (.iload 4, 2) := dk_21 4 (dk_at dksX50_slope_7 14 rfl rfl)
theorem dX50_slope_178 : decode cX50_slope 178 = .ok (.iconst 4, 1) := dk_7 (dk_at dksX50_slope_7 16 rfl rfl)
theorem dX50_slope_179 : decode cX50_slope 179 = .ok (.invokevirtual 288, 3) := dk_182 1 32 (dk_at dksX50_slope_7 17 rfl rfl)
theorem dX50_slope_182 : decode cX50_slope 182 = .ok (.aload_n 0, 1) := dk_42 (dk_at dksX50_slope_7 20 rfl rfl)
theorem dX50_slope_183 : decode cX50_slope 183 = .ok (.iconst 3, 1) := dk_6 (dk_at dksX50_slope_7 21 rfl rfl)
theorem dX50_slope_184 : decode cX50_slope 184 = .ok (.iconst 4, 1) := dk_7 (dk_at dksX50_slope_7 22 rfl rfl)
theorem dX50_slope_185 : decode cX50_slope 185 = .ok (.invokevirtual 292, 3) := dk_182 1 36 (dk_at dksX50_slope_8 0 rfl rfl)
theorem dX50_slope_188 : decode cX50_slope 188 = .ok (.istore 6, 2) := dk_54 6 (dk_at dksX50_slope_8 3 rfl rfl)
theorem dX50_slope_190 : decode cX50_slope 190 = .ok (.iload 6, 2) := dk_21 6 (dk_at dksX50_slope_8 5 rfl rfl)
theorem dX50_slope_192 : decode cX50_slope 192 = .ok (.ifCond .eq 18, 3) := dk_153 0 18 (dk_at dksX50_slope_8 7 rfl rfl)
theorem dX50_slope_195 : decode cX50_slope 195 = .ok (.aload_n 0, 1) := dk_42 (dk_at dksX50_slope_8 10 rfl rfl)
theorem dX50_slope_196 : decode cX50_slope 196 = .ok (.iconst 4, 1) := dk_7 (dk_at dksX50_slope_8 11 rfl rfl)
theorem dX50_slope_197 : decode cX50_slope 197 = .ok (.iconst 3, 1) := dk_6 (dk_at dksX50_slope_8 12 rfl rfl)
theorem dX50_slope_198 : decode cX50_slope 198 = .ok (.invokevirtual 236, 3) := dk_182 0 236 (dk_at dksX50_slope_8 13 rfl rfl)
theorem dX50_slope_201 : decode cX50_slope 201 = .ok (.aload_n 0, 1) := dk_42 (dk_at dksX50_slope_8 16 rfl rfl)
theorem dX50_slope_202 : decode cX50_slope 202 = .ok (.iconst 4, 1) := dk_7 (dk_at dksX50_slope_8 17 rfl rfl)
theorem dX50_slope_203 : decode cX50_slope 203 = .ok (.iconst 3, 1) := dk_6 (dk_at dksX50_slope_8 18 rfl rfl)
theorem dX50_slope_204 : decode cX50_slope 204 = .ok (.invokevirtual 232, 3) := dk_182 0 232 (dk_at dksX50_slope_8 19 rfl rfl)
theorem dX50_slope_207 : decode cX50_slope 207 = .ok (.goto 9, 3) := dk_167 0 9 (dk_at dksX50_slope_9 0 rfl rfl)
theorem dX50_slope_210 : decode cX50_slope 210 = .ok (.aload_n 0, 1) := dk_42 (dk_at dksX50_slope_9 3 rfl rfl)
theorem dX50_slope_211 : decode cX50_slope 211 = .ok (.iconst 3, 1) := dk_6 (dk_at dksX50_slope_9 4 rfl rfl)
theorem dX50_slope_212 : decode cX50_slope 212 = .ok (.iconst 4, 1) := dk_7 (dk_at dksX50_slope_9 5 rfl rfl)
theorem dX50_slope_213 : decode cX50_slope 213 = .ok (.invokevirtual 236, 3) := dk_182 0 236 (dk_at dksX50_slope_9 6 rfl rfl)
theorem dX50_slope_216 : decode cX50_slope 216 = .ok (.aload_n 0, 1) := dk_42 (dk_at dksX50_slope_9 9 rfl rfl)
theorem dX50_slope_217 : decode cX50_slope 217 = .ok (.iconst 5, 1) := dk_8 (dk_at dksX50_slope_9 10 rfl rfl)
theorem dX50_slope_218 : decode cX50_slope 218 = .ok (.iconst 3, 1) := dk_6 (dk_at dksX50_slope_9 11 rfl rfl)
theorem dX50_slope_219 : decode cX50_slope 219 = .ok (.iconst 0, 1) := dk_3 (dk_at dksX50_slope_9 12 rfl rfl)
theorem dX50_slope_220 : decode cX50_slope 220 = .ok (.invokevirtual 295, 3) := dk_182 1 39 (dk_at dksX50_slope_9 13 rfl rfl)
theorem dX50_slope_223 : decode cX50_slope 223 = .ok (.aload_n 0, 1) := dk_42 (dk_at dksX50_slope_9 16 rfl rfl)
theorem dX50_slope_224 : decode cX50_slope 224 = .ok (.iconst 1, 1) := dk_4 (dk_at dksX50_slope_9 17 rfl rfl)
theorem dX50_slope_225 : decode cX50_slope 225 = .ok (.iconst 4, 1) := dk_7 (dk_at dksX50_slope_9 18 rfl rfl)
theorem dX50_slope_226 : decode cX50_slope 226 = .ok (.invokevirtual 232, 3) := dk_182 0 232 (dk_at dksX50_slope_9 19 rfl rfl)
theorem dX50_slope_229 : decode cX50_slope 229 = .ok (.aload_n 0, 1) := dk_42 (dk_at dksX50_slope_9 22 rfl rfl)
theorem dX50_slope_230 : decode cX50_slope 230 = .ok (.iconst 4, 1) := dk_7 (dk_at dksX50_slope_9 23 rfl rfl)
theorem dX50_slope_231 : decode cX50_slope 231 = .ok (.iconst 4, 1) := dk_7 (dk_at dksX50_slope_10 0 rfl rfl)
theorem dX50_slope_232 : decode cX50_slope 232 = .ok (.iconst 1, 1) := dk_4 (dk_at dksX50_slope_10 1 rfl rfl)
theorem dX50_slope_233 : decode cX50_slope 233 = .ok (.invokevirtual 295, 3) := dk_182 1 39 (dk_at dksX50_slope_10 2 rfl rfl)
theorem dX50_slope_236 : decode cX50_slope 236 = .ok (.aload_n 0, 1) := dk_42 (dk_at dksX50_slope_10 5 rfl rfl)
theorem dX50_slope_237 : decode cX50_slope 237 = .ok (.iload 5, 2) := dk_21 5 (dk_at dksX50_slope_10 6 rfl rfl)
theorem dX50_slope_239 : decode cX50_slope 239 = .ok (.iload 6, 2) := dk_21 6 (dk_at dksX50_slope_10 8 rfl rfl)
theorem dX50_slope_241 : decode cX50_slope 241 = .ok (.invokevirtual 275, 3) := dk_182 1 19 (dk_at dksX50_slope_10 10 rfl rfl)
theorem dX50_slope_244 : decode cX50_slope 244 = .ok (.lreturn, 1) := dk_173 (dk_at dksX50_slope_10 13 rfl rfl)
abbrev cX50_gatherOut : ByteArray := prog_64_method_57_code
def yX50_gatherOut : MethodName := ⟨RX50, "gatherOut", "(IIIII)V"⟩
def dkwX50_gatherOut_2 : List UInt8 := [167, 0, 9, 42, 21, 5, 182, 0, 192, 177]
abbrev dktX50_gatherOut_2 : List UInt8 := dkwX50_gatherOut_2 ++ []
def dkwX50_gatherOut_1 : List UInt8 := [21, 5, 182, 1, 29, 167, 0, 28, 21, 6, 16, 254, 21, 4, 100, 160, 0, 12, 42, 21, 5, 182, 0, 251]
abbrev dktX50_gatherOut_1 : List UInt8 := dkwX50_gatherOut_1 ++ dktX50_gatherOut_2
def dkwX50_gatherOut_0 : List UInt8 := [42, 180, 0, 19, 6, 27, 104, 29, 96, 46, 54, 6, 21, 6, 155, 0, 18, 42, 6, 21, 6, 104, 28, 96]
abbrev dktX50_gatherOut_0 : List UInt8 := dkwX50_gatherOut_0 ++ dktX50_gatherOut_1
theorem dksX50_gatherOut_0 : cX50_gatherOut.data.toList.drop 0 = dktX50_gatherOut_0 := by decide +kernel
theorem dksX50_gatherOut_1 : cX50_gatherOut.data.toList.drop 24 = dktX50_gatherOut_1 := dk_seg dksX50_gatherOut_0 24 rfl rfl
theorem dksX50_gatherOut_2 : cX50_gatherOut.data.toList.drop 48 = dktX50_gatherOut_2 := dk_seg dksX50_gatherOut_1 24 rfl rfl
theorem dX50_gatherOut_0 : decode cX50_gatherOut 0 = .ok (.aload_n 0, 1) := dk_42 (dk_at dksX50_gatherOut_0 0 rfl rfl)
theorem dX50_gatherOut_1 : decode cX50_gatherOut 1 = .ok (.getfield 19, 3) := dk_180 0 19 (dk_at dksX50_gatherOut_0 1 rfl rfl)
theorem dX50_gatherOut_4 : decode cX50_gatherOut 4 = .ok (.iconst 3, 1) := dk_6 (dk_at dksX50_gatherOut_0 4 rfl rfl)
theorem dX50_gatherOut_5 : decode cX50_gatherOut 5 = .ok (.iload_n 1, 1) := dk_27 (dk_at dksX50_gatherOut_0 5 rfl rfl)
theorem dX50_gatherOut_6 : decode cX50_gatherOut 6 = .ok (.imul, 1) := dk_104 (dk_at dksX50_gatherOut_0 6 rfl rfl)
theorem dX50_gatherOut_7 : decode cX50_gatherOut 7 = .ok (.iload_n 3, 1) := dk_29 (dk_at dksX50_gatherOut_0 7 rfl rfl)
theorem dX50_gatherOut_8 : decode cX50_gatherOut 8 = .ok (.iadd, 1) := dk_96 (dk_at dksX50_gatherOut_0 8 rfl rfl)
theorem dX50_gatherOut_9 : decode cX50_gatherOut 9 = .ok (.iaload, 1) := dk_46 (dk_at dksX50_gatherOut_0 9 rfl rfl)
theorem dX50_gatherOut_10 : decode cX50_gatherOut 10 = .ok (.istore 6, 2) := dk_54 6 (dk_at dksX50_gatherOut_0 10 rfl rfl)
theorem dX50_gatherOut_12 : decode cX50_gatherOut 12 = .ok (.iload 6, 2) := dk_21 6 (dk_at dksX50_gatherOut_0 12 rfl rfl)
theorem dX50_gatherOut_14 : decode cX50_gatherOut 14 = .ok (.ifCond .lt 18, 3) := dk_155 0 18 (dk_at dksX50_gatherOut_0 14 rfl rfl)
theorem dX50_gatherOut_17 : decode cX50_gatherOut 17 = .ok (.aload_n 0, 1) := dk_42 (dk_at dksX50_gatherOut_0 17 rfl rfl)
theorem dX50_gatherOut_18 : decode cX50_gatherOut 18 = .ok (.iconst 3, 1) := dk_6 (dk_at dksX50_gatherOut_0 18 rfl rfl)
theorem dX50_gatherOut_19 : decode cX50_gatherOut 19 = .ok (.iload 6, 2) := dk_21 6 (dk_at dksX50_gatherOut_0 19 rfl rfl)
theorem dX50_gatherOut_21 : decode cX50_gatherOut 21 = .ok (.imul, 1) := dk_104 (dk_at dksX50_gatherOut_0 21 rfl rfl)
theorem dX50_gatherOut_22 : decode cX50_gatherOut 22 = .ok (.iload_n 2, 1) := dk_28 (dk_at dksX50_gatherOut_0 22 rfl rfl)
theorem dX50_gatherOut_23 : decode cX50_gatherOut 23 = .ok (.iadd, 1) := dk_96 (dk_at dksX50_gatherOut_0 23 rfl rfl)
theorem dX50_gatherOut_24 : decode cX50_gatherOut 24 = .ok (.iload 5, 2) := dk_21 5 (dk_at dksX50_gatherOut_1 0 rfl rfl)
theorem dX50_gatherOut_26 : decode cX50_gatherOut 26 = .ok (.invokevirtual 285, 3) := dk_182 1 29 (dk_at dksX50_gatherOut_1 2 rfl rfl)
theorem dX50_gatherOut_29 : decode cX50_gatherOut 29 = .ok (.goto 28, 3) := dk_167 0 28 (dk_at dksX50_gatherOut_1 5 rfl rfl)
theorem dX50_gatherOut_32 : decode cX50_gatherOut 32 = .ok (.iload 6, 2) := dk_21 6 (dk_at dksX50_gatherOut_1 8 rfl rfl)
theorem dX50_gatherOut_34 : decode cX50_gatherOut 34 = .ok (.bipush (-2), 2) := dk_16 254 (dk_at dksX50_gatherOut_1 10 rfl rfl)
theorem dX50_gatherOut_36 : decode cX50_gatherOut 36 = .ok (.iload 4, 2) := dk_21 4 (dk_at dksX50_gatherOut_1 12 rfl rfl)
theorem dX50_gatherOut_38 : decode cX50_gatherOut 38 = .ok (.isub, 1) := dk_100 (dk_at dksX50_gatherOut_1 14 rfl rfl)
theorem dX50_gatherOut_39 : decode cX50_gatherOut 39 = .ok (.if_icmp .ne 12, 3) := dk_160 0 12 (dk_at dksX50_gatherOut_1 15 rfl rfl)
theorem dX50_gatherOut_42 : decode cX50_gatherOut 42 = .ok (.aload_n 0, 1) := dk_42 (dk_at dksX50_gatherOut_1 18 rfl rfl)
theorem dX50_gatherOut_43 : decode cX50_gatherOut 43 = .ok (.iload 5, 2) := dk_21 5 (dk_at dksX50_gatherOut_1 19 rfl rfl)
theorem dX50_gatherOut_45 : decode cX50_gatherOut 45 = .ok (.invokevirtual 251, 3) := dk_182 0 251 (dk_at dksX50_gatherOut_1 21 rfl rfl)
theorem dX50_gatherOut_48 : decode cX50_gatherOut 48 = .ok (.goto 9, 3) := dk_167 0 9 (dk_at dksX50_gatherOut_2 0 rfl rfl)
theorem dX50_gatherOut_51 : decode cX50_gatherOut 51 = .ok (.aload_n 0, 1) := dk_42 (dk_at dksX50_gatherOut_2 3 rfl rfl)
theorem dX50_gatherOut_52 : decode cX50_gatherOut 52 = .ok (.iload 5, 2) := dk_21 5 (dk_at dksX50_gatherOut_2 4 rfl rfl)
theorem dX50_gatherOut_54 : decode cX50_gatherOut 54 = .ok (.invokevirtual 192, 3) := dk_182 0 192 (dk_at dksX50_gatherOut_2 6 rfl rfl)
theorem dX50_gatherOut_57 : decode cX50_gatherOut 57 = .ok (.return_, 1) := dk_177 (dk_at dksX50_gatherOut_2 9 rfl rfl)
abbrev cX50_gatherWorth : ByteArray := prog_64_method_48_code
def yX50_gatherWorth : MethodName := ⟨RX50, "gatherWorth", "(II)V"⟩
def dkwX50_gatherWorth_3 : List UInt8 := [180, 0, 81, 29, 22, 6, 80, 132, 3, 1, 167, 255, 176, 42, 28, 182, 0, 239, 177]
abbrev dktX50_gatherWorth_3 : List UInt8 := dkwX50_gatherWorth_3 ++ []
def dkwX50_gatherWorth_2 : List UInt8 := [42, 180, 0, 87, 21, 8, 47, 22, 4, 113, 105, 97, 22, 4, 113, 55, 6, 132, 8, 1, 167, 255, 210, 42]
abbrev dktX50_gatherWorth_2 : List UInt8 := dkwX50_gatherWorth_2 ++ dktX50_gatherWorth_3
def dkwX50_gatherWorth_1 : List UInt8 := [16, 9, 162, 0, 45, 22, 6, 42, 180, 0, 72, 16, 81, 29, 104, 16, 9, 21, 8, 104, 96, 27, 96, 47]
abbrev dktX50_gatherWorth_1 : List UInt8 := dkwX50_gatherWorth_1 ++ dktX50_gatherWorth_2
def dkwX50_gatherWorth_0 : List UInt8 := [3, 62, 29, 16, 8, 162, 0, 80, 42, 180, 0, 51, 29, 47, 55, 4, 9, 55, 6, 3, 54, 8, 21, 8]
abbrev dktX50_gatherWorth_0 : List UInt8 := dkwX50_gatherWorth_0 ++ dktX50_gatherWorth_1
theorem dksX50_gatherWorth_0 : cX50_gatherWorth.data.toList.drop 0 = dktX50_gatherWorth_0 := by decide +kernel
theorem dksX50_gatherWorth_1 : cX50_gatherWorth.data.toList.drop 24 = dktX50_gatherWorth_1 := dk_seg dksX50_gatherWorth_0 24 rfl rfl
theorem dksX50_gatherWorth_2 : cX50_gatherWorth.data.toList.drop 48 = dktX50_gatherWorth_2 := dk_seg dksX50_gatherWorth_1 24 rfl rfl
theorem dksX50_gatherWorth_3 : cX50_gatherWorth.data.toList.drop 72 = dktX50_gatherWorth_3 := dk_seg dksX50_gatherWorth_2 24 rfl rfl
theorem dX50_gatherWorth_0 : decode cX50_gatherWorth 0 = .ok (.iconst 0, 1) := dk_3 (dk_at dksX50_gatherWorth_0 0 rfl rfl)
theorem dX50_gatherWorth_1 : decode cX50_gatherWorth 1 = .ok (.istore_n 3, 1) := dk_62 (dk_at dksX50_gatherWorth_0 1 rfl rfl)
theorem dX50_gatherWorth_2 : decode cX50_gatherWorth 2 = .ok (.iload_n 3, 1) := dk_29 (dk_at dksX50_gatherWorth_0 2 rfl rfl)
theorem dX50_gatherWorth_3 : decode cX50_gatherWorth 3 = .ok (.bipush 8, 2) := dk_16 8 (dk_at dksX50_gatherWorth_0 3 rfl rfl)
theorem dX50_gatherWorth_5 : decode cX50_gatherWorth 5 = .ok (.if_icmp .ge 80, 3) := dk_162 0 80 (dk_at dksX50_gatherWorth_0 5 rfl rfl)
theorem dX50_gatherWorth_8 : decode cX50_gatherWorth 8 = .ok (.aload_n 0, 1) := dk_42 (dk_at dksX50_gatherWorth_0 8 rfl rfl)
theorem dX50_gatherWorth_9 : decode cX50_gatherWorth 9 = .ok (.getfield 51, 3) := dk_180 0 51 (dk_at dksX50_gatherWorth_0 9 rfl rfl)
theorem dX50_gatherWorth_12 : decode cX50_gatherWorth 12 = .ok (.iload_n 3, 1) := dk_29 (dk_at dksX50_gatherWorth_0 12 rfl rfl)
theorem dX50_gatherWorth_13 : decode cX50_gatherWorth 13 = .ok (.laload, 1) := dk_47 (dk_at dksX50_gatherWorth_0 13 rfl rfl)
theorem dX50_gatherWorth_14 : decode cX50_gatherWorth 14 = .ok (.lstore 4, 2) := dk_55 4 (dk_at dksX50_gatherWorth_0 14 rfl rfl)
theorem dX50_gatherWorth_16 : decode cX50_gatherWorth 16 = .ok (.lconst 0, 1) := dk_9 (dk_at dksX50_gatherWorth_0 16 rfl rfl)
theorem dX50_gatherWorth_17 : decode cX50_gatherWorth 17 = .ok (.lstore 6, 2) := dk_55 6 (dk_at dksX50_gatherWorth_0 17 rfl rfl)
theorem dX50_gatherWorth_19 : decode cX50_gatherWorth 19 = .ok (.iconst 0, 1) := dk_3 (dk_at dksX50_gatherWorth_0 19 rfl rfl)
theorem dX50_gatherWorth_20 : decode cX50_gatherWorth 20 = .ok (.istore 8, 2) := dk_54 8 (dk_at dksX50_gatherWorth_0 20 rfl rfl)
theorem dX50_gatherWorth_22 : decode cX50_gatherWorth 22 = .ok (.iload 8, 2) := dk_21 8 (dk_at dksX50_gatherWorth_0 22 rfl rfl)
theorem dX50_gatherWorth_24 : decode cX50_gatherWorth 24 = .ok (.bipush 9, 2) := dk_16 9 (dk_at dksX50_gatherWorth_1 0 rfl rfl)
theorem dX50_gatherWorth_26 : decode cX50_gatherWorth 26 = .ok (.if_icmp .ge 45, 3) := dk_162 0 45 (dk_at dksX50_gatherWorth_1 2 rfl rfl)
theorem dX50_gatherWorth_29 : decode cX50_gatherWorth 29 = .ok (.lload 6, 2) := dk_22 6 (dk_at dksX50_gatherWorth_1 5 rfl rfl)
theorem dX50_gatherWorth_31 : decode cX50_gatherWorth 31 = .ok (.aload_n 0, 1) := dk_42 (dk_at dksX50_gatherWorth_1 7 rfl rfl)
theorem dX50_gatherWorth_32 : decode cX50_gatherWorth 32 = .ok (.getfield 72, 3) := dk_180 0 72 (dk_at dksX50_gatherWorth_1 8 rfl rfl)
theorem dX50_gatherWorth_35 : decode cX50_gatherWorth 35 = .ok (.bipush 81, 2) := dk_16 81 (dk_at dksX50_gatherWorth_1 11 rfl rfl)
theorem dX50_gatherWorth_37 : decode cX50_gatherWorth 37 = .ok (.iload_n 3, 1) := dk_29 (dk_at dksX50_gatherWorth_1 13 rfl rfl)
theorem dX50_gatherWorth_38 : decode cX50_gatherWorth 38 = .ok (.imul, 1) := dk_104 (dk_at dksX50_gatherWorth_1 14 rfl rfl)
theorem dX50_gatherWorth_39 : decode cX50_gatherWorth 39 = .ok (.bipush 9, 2) := dk_16 9 (dk_at dksX50_gatherWorth_1 15 rfl rfl)
theorem dX50_gatherWorth_41 : decode cX50_gatherWorth 41 = .ok (.iload 8, 2) := dk_21 8 (dk_at dksX50_gatherWorth_1 17 rfl rfl)
theorem dX50_gatherWorth_43 : decode cX50_gatherWorth 43 = .ok (.imul, 1) := dk_104 (dk_at dksX50_gatherWorth_1 19 rfl rfl)
theorem dX50_gatherWorth_44 : decode cX50_gatherWorth 44 = .ok (.iadd, 1) := dk_96 (dk_at dksX50_gatherWorth_1 20 rfl rfl)
theorem dX50_gatherWorth_45 : decode cX50_gatherWorth 45 = .ok (.iload_n 1, 1) := dk_27 (dk_at dksX50_gatherWorth_1 21 rfl rfl)
theorem dX50_gatherWorth_46 : decode cX50_gatherWorth 46 = .ok (.iadd, 1) := dk_96 (dk_at dksX50_gatherWorth_1 22 rfl rfl)
theorem dX50_gatherWorth_47 : decode cX50_gatherWorth 47 = .ok (.laload, 1) := dk_47 (dk_at dksX50_gatherWorth_1 23 rfl rfl)
theorem dX50_gatherWorth_48 : decode cX50_gatherWorth 48 = .ok (.aload_n 0, 1) := dk_42 (dk_at dksX50_gatherWorth_2 0 rfl rfl)
theorem dX50_gatherWorth_49 : decode cX50_gatherWorth 49 = .ok (.getfield 87, 3) := dk_180 0 87 (dk_at dksX50_gatherWorth_2 1 rfl rfl)
theorem dX50_gatherWorth_52 : decode cX50_gatherWorth 52 = .ok (.iload 8, 2) := dk_21 8 (dk_at dksX50_gatherWorth_2 4 rfl rfl)
theorem dX50_gatherWorth_54 : decode cX50_gatherWorth 54 = .ok (.laload, 1) := dk_47 (dk_at dksX50_gatherWorth_2 6 rfl rfl)
theorem dX50_gatherWorth_55 : decode cX50_gatherWorth 55 = .ok (.lload 4, 2) := dk_22 4 (dk_at dksX50_gatherWorth_2 7 rfl rfl)
theorem dX50_gatherWorth_57 : decode cX50_gatherWorth 57 = .ok (.lrem, 1) := dk_113 (dk_at dksX50_gatherWorth_2 9 rfl rfl)
theorem dX50_gatherWorth_58 : decode cX50_gatherWorth 58 = .ok (.lmul, 1) := dk_105 (dk_at dksX50_gatherWorth_2 10 rfl rfl)
theorem dX50_gatherWorth_59 : decode cX50_gatherWorth 59 = .ok (.ladd, 1) := dk_97 (dk_at dksX50_gatherWorth_2 11 rfl rfl)
theorem dX50_gatherWorth_60 : decode cX50_gatherWorth 60 = .ok (.lload 4, 2) := dk_22 4 (dk_at dksX50_gatherWorth_2 12 rfl rfl)
theorem dX50_gatherWorth_62 : decode cX50_gatherWorth 62 = .ok (.lrem, 1) := dk_113 (dk_at dksX50_gatherWorth_2 14 rfl rfl)
theorem dX50_gatherWorth_63 : decode cX50_gatherWorth 63 = .ok (.lstore 6, 2) := dk_55 6 (dk_at dksX50_gatherWorth_2 15 rfl rfl)
theorem dX50_gatherWorth_65 : decode cX50_gatherWorth 65 = .ok (.iinc 8 1, 3) := dk_132 8 1 (dk_at dksX50_gatherWorth_2 17 rfl rfl)
theorem dX50_gatherWorth_68 : decode cX50_gatherWorth 68 = .ok (.goto (-46), 3) := dk_167 255 210 (dk_at dksX50_gatherWorth_2 20 rfl rfl)
theorem dX50_gatherWorth_71 : decode cX50_gatherWorth 71 = .ok (.aload_n 0, 1) := dk_42 (dk_at dksX50_gatherWorth_2 23 rfl rfl)
theorem dX50_gatherWorth_72 : decode cX50_gatherWorth 72 = .ok (.getfield 81, 3) := dk_180 0 81 (dk_at dksX50_gatherWorth_3 0 rfl rfl)
theorem dX50_gatherWorth_75 : decode cX50_gatherWorth 75 = .ok (.iload_n 3, 1) := dk_29 (dk_at dksX50_gatherWorth_3 3 rfl rfl)
theorem dX50_gatherWorth_76 : decode cX50_gatherWorth 76 = .ok (.lload 6, 2) := dk_22 6 (dk_at dksX50_gatherWorth_3 4 rfl rfl)
theorem dX50_gatherWorth_78 : decode cX50_gatherWorth 78 = .ok (.lastore, 1) := dk_80 (dk_at dksX50_gatherWorth_3 6 rfl rfl)
theorem dX50_gatherWorth_79 : decode cX50_gatherWorth 79 = .ok (.iinc 3 1, 3) := dk_132 3 1 (dk_at dksX50_gatherWorth_3 7 rfl rfl)
theorem dX50_gatherWorth_82 : decode cX50_gatherWorth 82 = .ok (.goto (-80), 3) := dk_167 255 176 (dk_at dksX50_gatherWorth_3 10 rfl rfl)
theorem dX50_gatherWorth_85 : decode cX50_gatherWorth 85 = .ok (.aload_n 0, 1) := dk_42 (dk_at dksX50_gatherWorth_3 13 rfl rfl)
theorem dX50_gatherWorth_86 : decode cX50_gatherWorth 86 = .ok (.iload_n 2, 1) := dk_28 (dk_at dksX50_gatherWorth_3 14 rfl rfl)
theorem dX50_gatherWorth_87 : decode cX50_gatherWorth 87 = .ok (.invokevirtual 239, 3) := dk_182 0 239 (dk_at dksX50_gatherWorth_3 15 rfl rfl)
theorem dX50_gatherWorth_90 : decode cX50_gatherWorth 90 = .ok (.return_, 1) := dk_177 (dk_at dksX50_gatherWorth_3 18 rfl rfl)
abbrev cX50_isLess : ByteArray := prog_64_method_33_code
def yX50_isLess : MethodName := ⟨RX50, "isLess", "(II)Z"⟩
def dkwX50_isLess_3 : List UInt8 := [172]
abbrev dktX50_isLess_3 : List UInt8 := dkwX50_isLess_3 ++ []
def dkwX50_isLess_2 : List UInt8 := [16, 24, 28, 104, 29, 96, 47, 148, 156, 0, 7, 4, 167, 0, 4, 3, 172, 132, 3, 255, 167, 255, 191, 3]
abbrev dktX50_isLess_2 : List UInt8 := dkwX50_isLess_2 ++ dktX50_isLess_3
def dkwX50_isLess_1 : List UInt8 := [28, 104, 29, 96, 47, 148, 153, 0, 35, 42, 180, 0, 78, 16, 24, 27, 104, 29, 96, 47, 42, 180, 0, 78]
abbrev dktX50_isLess_1 : List UInt8 := dkwX50_isLess_1 ++ dktX50_isLess_2
def dkwX50_isLess_0 : List UInt8 := [16, 23, 62, 29, 155, 0, 67, 42, 180, 0, 78, 16, 24, 27, 104, 29, 96, 47, 42, 180, 0, 78, 16, 24]
abbrev dktX50_isLess_0 : List UInt8 := dkwX50_isLess_0 ++ dktX50_isLess_1
theorem dksX50_isLess_0 : cX50_isLess.data.toList.drop 0 = dktX50_isLess_0 := by decide +kernel
theorem dksX50_isLess_1 : cX50_isLess.data.toList.drop 24 = dktX50_isLess_1 := dk_seg dksX50_isLess_0 24 rfl rfl
theorem dksX50_isLess_2 : cX50_isLess.data.toList.drop 48 = dktX50_isLess_2 := dk_seg dksX50_isLess_1 24 rfl rfl
theorem dksX50_isLess_3 : cX50_isLess.data.toList.drop 72 = dktX50_isLess_3 := dk_seg dksX50_isLess_2 24 rfl rfl
theorem dX50_isLess_0 : decode cX50_isLess 0 = .ok (.bipush 23, 2) := dk_16 23 (dk_at dksX50_isLess_0 0 rfl rfl)
theorem dX50_isLess_2 : decode cX50_isLess 2 = .ok (.istore_n 3, 1) := dk_62 (dk_at dksX50_isLess_0 2 rfl rfl)
theorem dX50_isLess_3 : decode cX50_isLess 3 = .ok (.iload_n 3, 1) := dk_29 (dk_at dksX50_isLess_0 3 rfl rfl)
theorem dX50_isLess_4 : decode cX50_isLess 4 = .ok (.ifCond .lt 67, 3) := dk_155 0 67 (dk_at dksX50_isLess_0 4 rfl rfl)
theorem dX50_isLess_7 : decode cX50_isLess 7 = .ok (.aload_n 0, 1) := dk_42 (dk_at dksX50_isLess_0 7 rfl rfl)
theorem dX50_isLess_8 : decode cX50_isLess 8 = .ok (.getfield 78, 3) := dk_180 0 78 (dk_at dksX50_isLess_0 8 rfl rfl)
theorem dX50_isLess_11 : decode cX50_isLess 11 = .ok (.bipush 24, 2) := dk_16 24 (dk_at dksX50_isLess_0 11 rfl rfl)
theorem dX50_isLess_13 : decode cX50_isLess 13 = .ok (.iload_n 1, 1) := dk_27 (dk_at dksX50_isLess_0 13 rfl rfl)
theorem dX50_isLess_14 : decode cX50_isLess 14 = .ok (.imul, 1) := dk_104 (dk_at dksX50_isLess_0 14 rfl rfl)
theorem dX50_isLess_15 : decode cX50_isLess 15 = .ok (.iload_n 3, 1) := dk_29 (dk_at dksX50_isLess_0 15 rfl rfl)
theorem dX50_isLess_16 : decode cX50_isLess 16 = .ok (.iadd, 1) := dk_96 (dk_at dksX50_isLess_0 16 rfl rfl)
theorem dX50_isLess_17 : decode cX50_isLess 17 = .ok (.laload, 1) := dk_47 (dk_at dksX50_isLess_0 17 rfl rfl)
theorem dX50_isLess_18 : decode cX50_isLess 18 = .ok (.aload_n 0, 1) := dk_42 (dk_at dksX50_isLess_0 18 rfl rfl)
theorem dX50_isLess_19 : decode cX50_isLess 19 = .ok (.getfield 78, 3) := dk_180 0 78 (dk_at dksX50_isLess_0 19 rfl rfl)
theorem dX50_isLess_22 : decode cX50_isLess 22 = .ok (.bipush 24, 2) := dk_16 24 (dk_at dksX50_isLess_0 22 rfl rfl)
theorem dX50_isLess_24 : decode cX50_isLess 24 = .ok (.iload_n 2, 1) := dk_28 (dk_at dksX50_isLess_1 0 rfl rfl)
theorem dX50_isLess_25 : decode cX50_isLess 25 = .ok (.imul, 1) := dk_104 (dk_at dksX50_isLess_1 1 rfl rfl)
theorem dX50_isLess_26 : decode cX50_isLess 26 = .ok (.iload_n 3, 1) := dk_29 (dk_at dksX50_isLess_1 2 rfl rfl)
theorem dX50_isLess_27 : decode cX50_isLess 27 = .ok (.iadd, 1) := dk_96 (dk_at dksX50_isLess_1 3 rfl rfl)
theorem dX50_isLess_28 : decode cX50_isLess 28 = .ok (.laload, 1) := dk_47 (dk_at dksX50_isLess_1 4 rfl rfl)
theorem dX50_isLess_29 : decode cX50_isLess 29 = .ok (.lcmp, 1) := dk_148 (dk_at dksX50_isLess_1 5 rfl rfl)
theorem dX50_isLess_30 : decode cX50_isLess 30 = .ok (.ifCond .eq 35, 3) := dk_153 0 35 (dk_at dksX50_isLess_1 6 rfl rfl)
theorem dX50_isLess_33 : decode cX50_isLess 33 = .ok (.aload_n 0, 1) := dk_42 (dk_at dksX50_isLess_1 9 rfl rfl)
theorem dX50_isLess_34 : decode cX50_isLess 34 = .ok (.getfield 78, 3) := dk_180 0 78 (dk_at dksX50_isLess_1 10 rfl rfl)
theorem dX50_isLess_37 : decode cX50_isLess 37 = .ok (.bipush 24, 2) := dk_16 24 (dk_at dksX50_isLess_1 13 rfl rfl)
theorem dX50_isLess_39 : decode cX50_isLess 39 = .ok (.iload_n 1, 1) := dk_27 (dk_at dksX50_isLess_1 15 rfl rfl)
theorem dX50_isLess_40 : decode cX50_isLess 40 = .ok (.imul, 1) := dk_104 (dk_at dksX50_isLess_1 16 rfl rfl)
theorem dX50_isLess_41 : decode cX50_isLess 41 = .ok (.iload_n 3, 1) := dk_29 (dk_at dksX50_isLess_1 17 rfl rfl)
theorem dX50_isLess_42 : decode cX50_isLess 42 = .ok (.iadd, 1) := dk_96 (dk_at dksX50_isLess_1 18 rfl rfl)
theorem dX50_isLess_43 : decode cX50_isLess 43 = .ok (.laload, 1) := dk_47 (dk_at dksX50_isLess_1 19 rfl rfl)
theorem dX50_isLess_44 : decode cX50_isLess 44 = .ok (.aload_n 0, 1) := dk_42 (dk_at dksX50_isLess_1 20 rfl rfl)
theorem dX50_isLess_45 : decode cX50_isLess 45 = .ok (.getfield 78, 3) := dk_180 0 78 (dk_at dksX50_isLess_1 21 rfl rfl)
theorem dX50_isLess_48 : decode cX50_isLess 48 = .ok (.bipush 24, 2) := dk_16 24 (dk_at dksX50_isLess_2 0 rfl rfl)
theorem dX50_isLess_50 : decode cX50_isLess 50 = .ok (.iload_n 2, 1) := dk_28 (dk_at dksX50_isLess_2 2 rfl rfl)
theorem dX50_isLess_51 : decode cX50_isLess 51 = .ok (.imul, 1) := dk_104 (dk_at dksX50_isLess_2 3 rfl rfl)
theorem dX50_isLess_52 : decode cX50_isLess 52 = .ok (.iload_n 3, 1) := dk_29 (dk_at dksX50_isLess_2 4 rfl rfl)
theorem dX50_isLess_53 : decode cX50_isLess 53 = .ok (.iadd, 1) := dk_96 (dk_at dksX50_isLess_2 5 rfl rfl)
theorem dX50_isLess_54 : decode cX50_isLess 54 = .ok (.laload, 1) := dk_47 (dk_at dksX50_isLess_2 6 rfl rfl)
theorem dX50_isLess_55 : decode cX50_isLess 55 = .ok (.lcmp, 1) := dk_148 (dk_at dksX50_isLess_2 7 rfl rfl)
theorem dX50_isLess_56 : decode cX50_isLess 56 = .ok (.ifCond .ge 7, 3) := dk_156 0 7 (dk_at dksX50_isLess_2 8 rfl rfl)
theorem dX50_isLess_59 : decode cX50_isLess 59 = .ok (.iconst 1, 1) := dk_4 (dk_at dksX50_isLess_2 11 rfl rfl)
theorem dX50_isLess_60 : decode cX50_isLess 60 = .ok (.goto 4, 3) := dk_167 0 4 (dk_at dksX50_isLess_2 12 rfl rfl)
theorem dX50_isLess_63 : decode cX50_isLess 63 = .ok (.iconst 0, 1) := dk_3 (dk_at dksX50_isLess_2 15 rfl rfl)
theorem dX50_isLess_64 : decode cX50_isLess 64 = .ok (.ireturn, 1) := dk_172 (dk_at dksX50_isLess_2 16 rfl rfl)
theorem dX50_isLess_65 : decode cX50_isLess 65 = .ok (.iinc 3 (-1), 3) := dk_132 3 255 (dk_at dksX50_isLess_2 17 rfl rfl)
theorem dX50_isLess_68 : decode cX50_isLess 68 = .ok (.goto (-65), 3) := dk_167 255 191 (dk_at dksX50_isLess_2 20 rfl rfl)
theorem dX50_isLess_71 : decode cX50_isLess 71 = .ok (.iconst 0, 1) := dk_3 (dk_at dksX50_isLess_2 23 rfl rfl)
theorem dX50_isLess_72 : decode cX50_isLess 72 = .ok (.ireturn, 1) := dk_172 (dk_at dksX50_isLess_3 0 rfl rfl)
abbrev cX50_multiply_2 : ByteArray := prog_64_method_36_code
def yX50_multiply_2 : MethodName := ⟨RX50, "multiply", "(III)V"⟩
def dkwX50_multiply_2_5 : List UInt8 := [22, 8, 16, 28, 123, 55, 5, 132, 7, 1, 167, 255, 152, 132, 4, 1, 167, 255, 133, 177]
abbrev dktX50_multiply_2_5 : List UInt8 := dkwX50_multiply_2_5 ++ []
def dkwX50_multiply_2_4 : List UInt8 := [55, 8, 42, 180, 0, 78, 16, 24, 29, 104, 21, 4, 96, 21, 7, 96, 22, 8, 20, 0, 190, 127, 80]
abbrev dktX50_multiply_2_4 : List UInt8 := dkwX50_multiply_2_4 ++ dktX50_multiply_2_5
def dkwX50_multiply_2_3 : List UInt8 := [27, 104, 21, 4, 96, 47, 42, 180, 0, 78, 16, 24, 28, 104, 21, 7, 96, 47, 105, 97, 22, 5, 97]
abbrev dktX50_multiply_2_3 : List UInt8 := dkwX50_multiply_2_3 ++ dktX50_multiply_2_4
def dkwX50_multiply_2_2 : List UInt8 := [158, 0, 83, 42, 180, 0, 78, 16, 24, 29, 104, 21, 4, 96, 21, 7, 96, 47, 42, 180, 0, 78, 16, 24]
abbrev dktX50_multiply_2_2 : List UInt8 := dkwX50_multiply_2_2 ++ dktX50_multiply_2_3
def dkwX50_multiply_2_1 : List UInt8 := [21, 7, 96, 16, 24, 162, 0, 100, 42, 180, 0, 78, 16, 24, 27, 104, 21, 4, 96, 47, 9, 148]
abbrev dktX50_multiply_2_1 : List UInt8 := dkwX50_multiply_2_1 ++ dktX50_multiply_2_2
def dkwX50_multiply_2_0 : List UInt8 := [42, 29, 182, 0, 192, 3, 54, 4, 21, 4, 16, 24, 162, 0, 122, 9, 55, 5, 3, 54, 7, 21, 4]
abbrev dktX50_multiply_2_0 : List UInt8 := dkwX50_multiply_2_0 ++ dktX50_multiply_2_1
theorem dksX50_multiply_2_0 : cX50_multiply_2.data.toList.drop 0 = dktX50_multiply_2_0 := by decide +kernel
theorem dksX50_multiply_2_1 : cX50_multiply_2.data.toList.drop 23 = dktX50_multiply_2_1 := dk_seg dksX50_multiply_2_0 23 rfl rfl
theorem dksX50_multiply_2_2 : cX50_multiply_2.data.toList.drop 45 = dktX50_multiply_2_2 := dk_seg dksX50_multiply_2_1 22 rfl rfl
theorem dksX50_multiply_2_3 : cX50_multiply_2.data.toList.drop 69 = dktX50_multiply_2_3 := dk_seg dksX50_multiply_2_2 24 rfl rfl
theorem dksX50_multiply_2_4 : cX50_multiply_2.data.toList.drop 92 = dktX50_multiply_2_4 := dk_seg dksX50_multiply_2_3 23 rfl rfl
theorem dksX50_multiply_2_5 : cX50_multiply_2.data.toList.drop 115 = dktX50_multiply_2_5 := dk_seg dksX50_multiply_2_4 23 rfl rfl
theorem dX50_multiply_2_0 : decode cX50_multiply_2 0 = .ok (.aload_n 0, 1) := dk_42 (dk_at dksX50_multiply_2_0 0 rfl rfl)
theorem dX50_multiply_2_1 : decode cX50_multiply_2 1 = .ok (.iload_n 3, 1) := dk_29 (dk_at dksX50_multiply_2_0 1 rfl rfl)
theorem dX50_multiply_2_2 : decode cX50_multiply_2 2 = .ok (.invokevirtual 192, 3) := dk_182 0 192 (dk_at dksX50_multiply_2_0 2 rfl rfl)
theorem dX50_multiply_2_5 : decode cX50_multiply_2 5 = .ok (.iconst 0, 1) := dk_3 (dk_at dksX50_multiply_2_0 5 rfl rfl)
theorem dX50_multiply_2_6 : decode cX50_multiply_2 6 = .ok (.istore 4, 2) := dk_54 4 (dk_at dksX50_multiply_2_0 6 rfl rfl)
theorem dX50_multiply_2_8 : decode cX50_multiply_2 8 = .ok (.iload 4, 2) := dk_21 4 (dk_at dksX50_multiply_2_0 8 rfl rfl)
theorem dX50_multiply_2_10 : decode cX50_multiply_2 10 = .ok (.bipush 24, 2) := dk_16 24 (dk_at dksX50_multiply_2_0 10 rfl rfl)
theorem dX50_multiply_2_12 : decode cX50_multiply_2 12 = .ok (.if_icmp .ge 122, 3) := dk_162 0 122 (dk_at dksX50_multiply_2_0 12 rfl rfl)
theorem dX50_multiply_2_15 : decode cX50_multiply_2 15 = .ok (.lconst 0, 1) := dk_9 (dk_at dksX50_multiply_2_0 15 rfl rfl)
theorem dX50_multiply_2_16 : decode cX50_multiply_2 16 = .ok (.lstore 5, 2) := dk_55 5 (dk_at dksX50_multiply_2_0 16 rfl rfl)
theorem dX50_multiply_2_18 : decode cX50_multiply_2 18 = .ok (.iconst 0, 1) := dk_3 (dk_at dksX50_multiply_2_0 18 rfl rfl)
theorem dX50_multiply_2_19 : decode cX50_multiply_2 19 = .ok (.istore 7, 2) := dk_54 7 (dk_at dksX50_multiply_2_0 19 rfl rfl)
theorem dX50_multiply_2_21 : decode cX50_multiply_2 21 = .ok (.iload 4, 2) := dk_21 4 (dk_at dksX50_multiply_2_0 21 rfl rfl)
theorem dX50_multiply_2_23 : decode cX50_multiply_2 23 = .ok (.iload 7, 2) := dk_21 7 (dk_at dksX50_multiply_2_1 0 rfl rfl)
theorem dX50_multiply_2_25 : decode cX50_multiply_2 25 = .ok (.iadd, 1) := dk_96 (dk_at dksX50_multiply_2_1 2 rfl rfl)
theorem dX50_multiply_2_26 : decode cX50_multiply_2 26 = .ok (.bipush 24, 2) := dk_16 24 (dk_at dksX50_multiply_2_1 3 rfl rfl)
theorem dX50_multiply_2_28 : decode cX50_multiply_2 28 = .ok (.if_icmp .ge 100, 3) := dk_162 0 100 (dk_at dksX50_multiply_2_1 5 rfl rfl)
theorem dX50_multiply_2_31 : decode cX50_multiply_2 31 = .ok (.aload_n 0, 1) := dk_42 (dk_at dksX50_multiply_2_1 8 rfl rfl)
theorem dX50_multiply_2_32 : decode cX50_multiply_2 32 = .ok (.getfield 78, 3) := dk_180 0 78 (dk_at dksX50_multiply_2_1 9 rfl rfl)
theorem dX50_multiply_2_35 : decode cX50_multiply_2 35 = .ok (.bipush 24, 2) := dk_16 24 (dk_at dksX50_multiply_2_1 12 rfl rfl)
theorem dX50_multiply_2_37 : decode cX50_multiply_2 37 = .ok (.iload_n 1, 1) := dk_27 (dk_at dksX50_multiply_2_1 14 rfl rfl)
theorem dX50_multiply_2_38 : decode cX50_multiply_2 38 = .ok (.imul, 1) := dk_104 (dk_at dksX50_multiply_2_1 15 rfl rfl)
theorem dX50_multiply_2_39 : decode cX50_multiply_2 39 = .ok (.iload 4, 2) := dk_21 4 (dk_at dksX50_multiply_2_1 16 rfl rfl)
theorem dX50_multiply_2_41 : decode cX50_multiply_2 41 = .ok (.iadd, 1) := dk_96 (dk_at dksX50_multiply_2_1 18 rfl rfl)
theorem dX50_multiply_2_42 : decode cX50_multiply_2 42 = .ok (.laload, 1) := dk_47 (dk_at dksX50_multiply_2_1 19 rfl rfl)
theorem dX50_multiply_2_43 : decode cX50_multiply_2 43 = .ok (.lconst 0, 1) := dk_9 (dk_at dksX50_multiply_2_1 20 rfl rfl)
theorem dX50_multiply_2_44 : decode cX50_multiply_2 44 = .ok (.lcmp, 1) := dk_148 (dk_at dksX50_multiply_2_1 21 rfl rfl)
theorem dX50_multiply_2_45 : decode cX50_multiply_2 45 = .ok (.ifCond .le 83, 3) := dk_158 0 83 (dk_at dksX50_multiply_2_2 0 rfl rfl)
theorem dX50_multiply_2_48 : decode cX50_multiply_2 48 = .ok (.aload_n 0, 1) := dk_42 (dk_at dksX50_multiply_2_2 3 rfl rfl)
theorem dX50_multiply_2_49 : decode cX50_multiply_2 49 = .ok (.getfield 78, 3) := dk_180 0 78 (dk_at dksX50_multiply_2_2 4 rfl rfl)
theorem dX50_multiply_2_52 : decode cX50_multiply_2 52 = .ok (.bipush 24, 2) := dk_16 24 (dk_at dksX50_multiply_2_2 7 rfl rfl)
theorem dX50_multiply_2_54 : decode cX50_multiply_2 54 = .ok (.iload_n 3, 1) := dk_29 (dk_at dksX50_multiply_2_2 9 rfl rfl)
theorem dX50_multiply_2_55 : decode cX50_multiply_2 55 = .ok (.imul, 1) := dk_104 (dk_at dksX50_multiply_2_2 10 rfl rfl)
theorem dX50_multiply_2_56 : decode cX50_multiply_2 56 = .ok (.iload 4, 2) := dk_21 4 (dk_at dksX50_multiply_2_2 11 rfl rfl)
theorem dX50_multiply_2_58 : decode cX50_multiply_2 58 = .ok (.iadd, 1) := dk_96 (dk_at dksX50_multiply_2_2 13 rfl rfl)
theorem dX50_multiply_2_59 : decode cX50_multiply_2 59 = .ok (.iload 7, 2) := dk_21 7 (dk_at dksX50_multiply_2_2 14 rfl rfl)
theorem dX50_multiply_2_61 : decode cX50_multiply_2 61 = .ok (.iadd, 1) := dk_96 (dk_at dksX50_multiply_2_2 16 rfl rfl)
theorem dX50_multiply_2_62 : decode cX50_multiply_2 62 = .ok (.laload, 1) := dk_47 (dk_at dksX50_multiply_2_2 17 rfl rfl)
theorem dX50_multiply_2_63 : decode cX50_multiply_2 63 = .ok (.aload_n 0, 1) := dk_42 (dk_at dksX50_multiply_2_2 18 rfl rfl)
theorem dX50_multiply_2_64 : decode cX50_multiply_2 64 = .ok (.getfield 78, 3) := dk_180 0 78 (dk_at dksX50_multiply_2_2 19 rfl rfl)
theorem dX50_multiply_2_67 : decode cX50_multiply_2 67 = .ok (.bipush 24, 2) := dk_16 24 (dk_at dksX50_multiply_2_2 22 rfl rfl)
theorem dX50_multiply_2_69 : decode cX50_multiply_2 69 = .ok (.iload_n 1, 1) := dk_27 (dk_at dksX50_multiply_2_3 0 rfl rfl)
theorem dX50_multiply_2_70 : decode cX50_multiply_2 70 = .ok (.imul, 1) := dk_104 (dk_at dksX50_multiply_2_3 1 rfl rfl)
theorem dX50_multiply_2_71 : decode cX50_multiply_2 71 = .ok (.iload 4, 2) := dk_21 4 (dk_at dksX50_multiply_2_3 2 rfl rfl)
theorem dX50_multiply_2_73 : decode cX50_multiply_2 73 = .ok (.iadd, 1) := dk_96 (dk_at dksX50_multiply_2_3 4 rfl rfl)
theorem dX50_multiply_2_74 : decode cX50_multiply_2 74 = .ok (.laload, 1) := dk_47 (dk_at dksX50_multiply_2_3 5 rfl rfl)
theorem dX50_multiply_2_75 : decode cX50_multiply_2 75 = .ok (.aload_n 0, 1) := dk_42 (dk_at dksX50_multiply_2_3 6 rfl rfl)
theorem dX50_multiply_2_76 : decode cX50_multiply_2 76 = .ok (.getfield 78, 3) := dk_180 0 78 (dk_at dksX50_multiply_2_3 7 rfl rfl)
theorem dX50_multiply_2_79 : decode cX50_multiply_2 79 = .ok (.bipush 24, 2) := dk_16 24 (dk_at dksX50_multiply_2_3 10 rfl rfl)
theorem dX50_multiply_2_81 : decode cX50_multiply_2 81 = .ok (.iload_n 2, 1) := dk_28 (dk_at dksX50_multiply_2_3 12 rfl rfl)
theorem dX50_multiply_2_82 : decode cX50_multiply_2 82 = .ok (.imul, 1) := dk_104 (dk_at dksX50_multiply_2_3 13 rfl rfl)
theorem dX50_multiply_2_83 : decode cX50_multiply_2 83 = .ok (.iload 7, 2) := dk_21 7 (dk_at dksX50_multiply_2_3 14 rfl rfl)
theorem dX50_multiply_2_85 : decode cX50_multiply_2 85 = .ok (.iadd, 1) := dk_96 (dk_at dksX50_multiply_2_3 16 rfl rfl)
theorem dX50_multiply_2_86 : decode cX50_multiply_2 86 = .ok (.laload, 1) := dk_47 (dk_at dksX50_multiply_2_3 17 rfl rfl)
theorem dX50_multiply_2_87 : decode cX50_multiply_2 87 = .ok (.lmul, 1) := dk_105 (dk_at dksX50_multiply_2_3 18 rfl rfl)
theorem dX50_multiply_2_88 : decode cX50_multiply_2 88 = .ok (.ladd, 1) := dk_97 (dk_at dksX50_multiply_2_3 19 rfl rfl)
theorem dX50_multiply_2_89 : decode cX50_multiply_2 89 = .ok (.lload 5, 2) := dk_22 5 (dk_at dksX50_multiply_2_3 20 rfl rfl)
theorem dX50_multiply_2_91 : decode cX50_multiply_2 91 = .ok (.ladd, 1) := dk_97 (dk_at dksX50_multiply_2_3 22 rfl rfl)
theorem dX50_multiply_2_92 : decode cX50_multiply_2 92 = .ok (.lstore 8, 2) := dk_55 8 (dk_at dksX50_multiply_2_4 0 rfl rfl)
theorem dX50_multiply_2_94 : decode cX50_multiply_2 94 = .ok (.aload_n 0, 1) := dk_42 (dk_at dksX50_multiply_2_4 2 rfl rfl)
theorem dX50_multiply_2_95 : decode cX50_multiply_2 95 = .ok (.getfield 78, 3) := dk_180 0 78 (dk_at dksX50_multiply_2_4 3 rfl rfl)
theorem dX50_multiply_2_98 : decode cX50_multiply_2 98 = .ok (.bipush 24, 2) := dk_16 24 (dk_at dksX50_multiply_2_4 6 rfl rfl)
theorem dX50_multiply_2_100 : decode cX50_multiply_2 100 = .ok (.iload_n 3, 1) := dk_29 (dk_at dksX50_multiply_2_4 8 rfl rfl)
theorem dX50_multiply_2_101 : decode cX50_multiply_2 101 = .ok (.imul, 1) := dk_104 (dk_at dksX50_multiply_2_4 9 rfl rfl)
theorem dX50_multiply_2_102 : decode cX50_multiply_2 102 = .ok (.iload 4, 2) := dk_21 4 (dk_at dksX50_multiply_2_4 10 rfl rfl)
theorem dX50_multiply_2_104 : decode cX50_multiply_2 104 = .ok (.iadd, 1) := dk_96 (dk_at dksX50_multiply_2_4 12 rfl rfl)
theorem dX50_multiply_2_105 : decode cX50_multiply_2 105 = .ok (.iload 7, 2) := dk_21 7 (dk_at dksX50_multiply_2_4 13 rfl rfl)
theorem dX50_multiply_2_107 : decode cX50_multiply_2 107 = .ok (.iadd, 1) := dk_96 (dk_at dksX50_multiply_2_4 15 rfl rfl)
theorem dX50_multiply_2_108 : decode cX50_multiply_2 108 = .ok (.lload 8, 2) := dk_22 8 (dk_at dksX50_multiply_2_4 16 rfl rfl)
theorem dX50_multiply_2_110 : decode cX50_multiply_2 110 = .ok (.ldc2_w 190, 3) := dk_20 0 190 (dk_at dksX50_multiply_2_4 18 rfl rfl)
theorem dX50_multiply_2_113 : decode cX50_multiply_2 113 = .ok (.land, 1) := dk_127 (dk_at dksX50_multiply_2_4 21 rfl rfl)
theorem dX50_multiply_2_114 : decode cX50_multiply_2 114 = .ok (.lastore, 1) := dk_80 (dk_at dksX50_multiply_2_4 22 rfl rfl)
theorem dX50_multiply_2_115 : decode cX50_multiply_2 115 = .ok (.lload 8, 2) := dk_22 8 (dk_at dksX50_multiply_2_5 0 rfl rfl)
theorem dX50_multiply_2_117 : decode cX50_multiply_2 117 = .ok (.bipush 28, 2) := dk_16 28 (dk_at dksX50_multiply_2_5 2 rfl rfl)
theorem dX50_multiply_2_119 : decode cX50_multiply_2 119 = .ok (.lshr, 1) := dk_123 (dk_at dksX50_multiply_2_5 4 rfl rfl)
theorem dX50_multiply_2_120 : decode cX50_multiply_2 120 = .ok (.lstore 5, 2) := dk_55 5 (dk_at dksX50_multiply_2_5 5 rfl rfl)
theorem dX50_multiply_2_122 : decode cX50_multiply_2 122 = .ok (.iinc 7 1, 3) := dk_132 7 1 (dk_at dksX50_multiply_2_5 7 rfl rfl)
theorem dX50_multiply_2_125 : decode cX50_multiply_2 125 = .ok (.goto (-104), 3) := dk_167 255 152 (dk_at dksX50_multiply_2_5 10 rfl rfl)
theorem dX50_multiply_2_128 : decode cX50_multiply_2 128 = .ok (.iinc 4 1, 3) := dk_132 4 1 (dk_at dksX50_multiply_2_5 13 rfl rfl)
theorem dX50_multiply_2_131 : decode cX50_multiply_2 131 = .ok (.goto (-123), 3) := dk_167 255 133 (dk_at dksX50_multiply_2_5 16 rfl rfl)
theorem dX50_multiply_2_134 : decode cX50_multiply_2 134 = .ok (.return_, 1) := dk_177 (dk_at dksX50_multiply_2_5 19 rfl rfl)
abbrev cX50_purity : ByteArray := prog_64_method_59_code
def yX50_purity : MethodName := ⟨RX50, "purity", "(III)J"⟩
def dkwX50_purity_4 : List UInt8 := [29, 3, 182, 1, 19, 173]
abbrev dktX50_purity_4 : List UInt8 := dkwX50_purity_4 ++ []
def dkwX50_purity_3 : List UInt8 := [182, 1, 13, 42, 4, 4, 182, 1, 16, 42, 4, 182, 0, 229, 153, 0, 9, 20, 0, 223, 167, 0, 9, 42]
abbrev dktX50_purity_3 : List UInt8 := dkwX50_purity_3 ++ dktX50_purity_4
def dkwX50_purity_2 : List UInt8 := [182, 1, 10, 42, 4, 27, 28, 182, 1, 13, 42, 4, 3, 182, 1, 16, 42, 182, 0, 254, 42, 4, 27, 2]
abbrev dktX50_purity_2 : List UInt8 := dkwX50_purity_2 ++ dktX50_purity_3
def dkwX50_purity_1 : List UInt8 := [182, 0, 133, 153, 0, 13, 29, 155, 0, 9, 29, 16, 6, 164, 0, 7, 20, 0, 223, 173, 42, 4]
abbrev dktX50_purity_1 : List UInt8 := dkwX50_purity_1 ++ dktX50_purity_2
def dkwX50_purity_0 : List UInt8 := [42, 180, 1, 4, 153, 0, 35, 27, 155, 0, 31, 27, 42, 180, 0, 13, 4, 46, 162, 0, 21, 42, 28]
abbrev dktX50_purity_0 : List UInt8 := dkwX50_purity_0 ++ dktX50_purity_1
theorem dksX50_purity_0 : cX50_purity.data.toList.drop 0 = dktX50_purity_0 := by decide +kernel
theorem dksX50_purity_1 : cX50_purity.data.toList.drop 23 = dktX50_purity_1 := dk_seg dksX50_purity_0 23 rfl rfl
theorem dksX50_purity_2 : cX50_purity.data.toList.drop 45 = dktX50_purity_2 := dk_seg dksX50_purity_1 22 rfl rfl
theorem dksX50_purity_3 : cX50_purity.data.toList.drop 69 = dktX50_purity_3 := dk_seg dksX50_purity_2 24 rfl rfl
theorem dksX50_purity_4 : cX50_purity.data.toList.drop 93 = dktX50_purity_4 := dk_seg dksX50_purity_3 24 rfl rfl
theorem dX50_purity_0 : decode cX50_purity 0 = .ok (.aload_n 0, 1) := dk_42 (dk_at dksX50_purity_0 0 rfl rfl)
theorem dX50_purity_1 : decode cX50_purity 1 = .ok (.getfield 260, 3) := dk_180 1 4 (dk_at dksX50_purity_0 1 rfl rfl)
theorem dX50_purity_4 : decode cX50_purity 4 = .ok (.ifCond .eq 35, 3) := dk_153 0 35 (dk_at dksX50_purity_0 4 rfl rfl)
theorem dX50_purity_7 : decode cX50_purity 7 = .ok (.iload_n 1, 1) := dk_27 (dk_at dksX50_purity_0 7 rfl rfl)
theorem dX50_purity_8 : decode cX50_purity 8 = .ok (.ifCond .lt 31, 3) := dk_155 0 31 (dk_at dksX50_purity_0 8 rfl rfl)
theorem dX50_purity_11 : decode cX50_purity 11 = .ok (.iload_n 1, 1) := dk_27 (dk_at dksX50_purity_0 11 rfl rfl)
theorem dX50_purity_12 : decode cX50_purity 12 = .ok (.aload_n 0, 1) := dk_42 (dk_at dksX50_purity_0 12 rfl rfl)
theorem dX50_purity_13 : decode cX50_purity 13 = .ok (.getfield 13, 3) := dk_180 0 13 (dk_at dksX50_purity_0 13 rfl rfl)
theorem dX50_purity_16 : decode cX50_purity 16 = .ok (.iconst 1, 1) := dk_4 (dk_at dksX50_purity_0 16 rfl rfl)
theorem dX50_purity_17 : decode cX50_purity 17 = .ok (.iaload, 1) := dk_46 (dk_at dksX50_purity_0 17 rfl rfl)
theorem dX50_purity_18 : decode cX50_purity 18 = .ok (.if_icmp .ge 21, 3) := dk_162 0 21 (dk_at dksX50_purity_0 18 rfl rfl)
theorem dX50_purity_21 : decode cX50_purity 21 = .ok (.aload_n 0, 1) := dk_42 (dk_at dksX50_purity_0 21 rfl rfl)
theorem dX50_purity_22 : decode cX50_purity 22 = .ok (.iload_n 2, 1) := dk_28 (dk_at dksX50_purity_0 22 rfl rfl)
theorem dX50_purity_23 : decode cX50_purity 23 = .ok (.invokevirtual 133, 3) := dk_182 0 133 (dk_at dksX50_purity_1 0 rfl rfl)
theorem dX50_purity_26 : decode cX50_purity 26 = .ok (.ifCond .eq 13, 3) := dk_153 0 13 (dk_at dksX50_purity_1 3 rfl rfl)
theorem dX50_purity_29 : decode cX50_purity 29 = .ok (.iload_n 3, 1) := dk_29 (dk_at dksX50_purity_1 6 rfl rfl)
theorem dX50_purity_30 : decode cX50_purity 30 = .ok (.ifCond .lt 9, 3) := dk_155 0 9 (dk_at dksX50_purity_1 7 rfl rfl)
theorem dX50_purity_33 : decode cX50_purity 33 = .ok (.iload_n 3, 1) := dk_29 (dk_at dksX50_purity_1 10 rfl rfl)
theorem dX50_purity_34 : decode cX50_purity 34 = .ok (.bipush 6, 2) := dk_16 6 (dk_at dksX50_purity_1 11 rfl rfl)
theorem dX50_purity_36 : decode cX50_purity 36 = .ok (.if_icmp .le 7, 3) := dk_164 0 7 (dk_at dksX50_purity_1 13 rfl rfl)
theorem dX50_purity_39 : decode cX50_purity 39 = .ok (.ldc2_w 223, 3) := dk_20 0 223 (dk_at dksX50_purity_1 16 rfl rfl)
theorem dX50_purity_42 : decode cX50_purity 42 = .ok (.lreturn, 1) := dk_173 (dk_at dksX50_purity_1 19 rfl rfl)
theorem dX50_purity_43 : decode cX50_purity 43 = .ok (.aload_n 0, 1) := dk_42 (dk_at dksX50_purity_1 20 rfl rfl)
theorem dX50_purity_44 : decode cX50_purity 44 = .ok (.iconst 1, 1) := dk_4 (dk_at dksX50_purity_1 21 rfl rfl)
theorem dX50_purity_45 : decode cX50_purity 45 = .ok (.invokevirtual 266, 3) := dk_182 1 10 (dk_at dksX50_purity_2 0 rfl rfl)
theorem dX50_purity_48 : decode cX50_purity 48 = .ok (.aload_n 0, 1) := dk_42 (dk_at dksX50_purity_2 3 rfl rfl)
theorem dX50_purity_49 : decode cX50_purity 49 = .ok (.iconst 1, 1) := dk_4 (dk_at dksX50_purity_2 4 rfl rfl)
theorem dX50_purity_50 : decode cX50_purity 50 = .ok (.iload_n 1, 1) := dk_27 (dk_at dksX50_purity_2 5 rfl rfl)
theorem dX50_purity_51 : decode cX50_purity 51 = .ok (.iload_n 2, 1) := dk_28 (dk_at dksX50_purity_2 6 rfl rfl)
theorem dX50_purity_52 : decode cX50_purity 52 = .ok (.invokevirtual 269, 3) := dk_182 1 13 (dk_at dksX50_purity_2 7 rfl rfl)
theorem dX50_purity_55 : decode cX50_purity 55 = .ok (.aload_n 0, 1) := dk_42 (dk_at dksX50_purity_2 10 rfl rfl)
theorem dX50_purity_56 : decode cX50_purity 56 = .ok (.iconst 1, 1) := dk_4 (dk_at dksX50_purity_2 11 rfl rfl)
theorem dX50_purity_57 : decode cX50_purity 57 = .ok (.iconst 0, 1) := dk_3 (dk_at dksX50_purity_2 12 rfl rfl)
theorem dX50_purity_58 : decode cX50_purity 58 = .ok (.invokevirtual 272, 3) := dk_182 1 16 (dk_at dksX50_purity_2 13 rfl rfl)
theorem dX50_purity_61 : decode cX50_purity 61 = .ok (.aload_n 0, 1) := dk_42 (dk_at dksX50_purity_2 16 rfl rfl)
theorem dX50_purity_62 : decode cX50_purity 62 = .ok (.invokevirtual 254, 3) := dk_182 0 254 (dk_at dksX50_purity_2 17 rfl rfl)
theorem dX50_purity_65 : decode cX50_purity 65 = .ok (.aload_n 0, 1) := dk_42 (dk_at dksX50_purity_2 20 rfl rfl)
theorem dX50_purity_66 : decode cX50_purity 66 = .ok (.iconst 1, 1) := dk_4 (dk_at dksX50_purity_2 21 rfl rfl)
theorem dX50_purity_67 : decode cX50_purity 67 = .ok (.iload_n 1, 1) := dk_27 (dk_at dksX50_purity_2 22 rfl rfl)
theorem dX50_purity_68 : decode cX50_purity 68 = .ok (.iconst (-1), 1) := dk_2 (dk_at dksX50_purity_2 23 rfl rfl)
theorem dX50_purity_69 : decode cX50_purity 69 = .ok (.invokevirtual 269, 3) := dk_182 1 13 (dk_at dksX50_purity_3 0 rfl rfl)
theorem dX50_purity_72 : decode cX50_purity 72 = .ok (.aload_n 0, 1) := dk_42 (dk_at dksX50_purity_3 3 rfl rfl)
theorem dX50_purity_73 : decode cX50_purity 73 = .ok (.iconst 1, 1) := dk_4 (dk_at dksX50_purity_3 4 rfl rfl)
theorem dX50_purity_74 : decode cX50_purity 74 = .ok (.iconst 1, 1) := dk_4 (dk_at dksX50_purity_3 5 rfl rfl)
theorem dX50_purity_75 : decode cX50_purity 75 = .ok (.invokevirtual 272, 3) := dk_182 1 16 (dk_at dksX50_purity_3 6 rfl rfl)
theorem dX50_purity_78 : decode cX50_purity 78 = .ok (.aload_n 0, 1) := dk_42 (dk_at dksX50_purity_3 9 rfl rfl)
theorem dX50_purity_79 : decode cX50_purity 79 = .ok (.iconst 1, 1) := dk_4 (dk_at dksX50_purity_3 10 rfl rfl)
theorem dX50_purity_80 : decode cX50_purity 80 = .ok (.invokevirtual 229, 3) := dk_182 0 229 (dk_at dksX50_purity_3 11 rfl rfl)
theorem dX50_purity_83 : decode cX50_purity 83 = .ok (.ifCond .eq 9, 3) := dk_153 0 9 (dk_at dksX50_purity_3 14 rfl rfl)
theorem dX50_purity_86 : decode cX50_purity 86 = .ok (.ldc2_w 223, 3) := dk_20 0 223 (dk_at dksX50_purity_3 17 rfl rfl)
theorem dX50_purity_89 : decode cX50_purity 89 = .ok (.goto 9, 3) := dk_167 0 9 (dk_at dksX50_purity_3 20 rfl rfl)
theorem dX50_purity_92 : decode cX50_purity 92 = .ok (.aload_n 0, 1) := dk_42 (dk_at dksX50_purity_3 23 rfl rfl)
theorem dX50_purity_93 : decode cX50_purity 93 = .ok (.iload_n 3, 1) := dk_29 (dk_at dksX50_purity_4 0 rfl rfl)
theorem dX50_purity_94 : decode cX50_purity 94 = .ok (.iconst 0, 1) := dk_3 (dk_at dksX50_purity_4 1 rfl rfl)
theorem dX50_purity_95 : decode cX50_purity 95 = .ok (.invokevirtual 275, 3) := dk_182 1 19 (dk_at dksX50_purity_4 2 rfl rfl)
theorem dX50_purity_98 : decode cX50_purity 98 = .ok (.lreturn, 1) := dk_173 (dk_at dksX50_purity_4 5 rfl rfl)
abbrev cX50_change : ByteArray := prog_64_method_60_code
def yX50_change : MethodName := ⟨RX50, "change", "(IIIJJ)Z"⟩
def dkwX50_change_1 : List UInt8 := [155, 0, 7, 4, 167, 0, 4, 3, 172]
abbrev dktX50_change_1 : List UInt8 := dkwX50_change_1 ++ []
def dkwX50_change_0 : List UInt8 := [42, 27, 28, 29, 22, 4, 22, 6, 182, 1, 41, 154, 0, 5, 3, 172, 42, 182, 1, 44, 54, 8, 21, 8]
abbrev dktX50_change_0 : List UInt8 := dkwX50_change_0 ++ dktX50_change_1
theorem dksX50_change_0 : cX50_change.data.toList.drop 0 = dktX50_change_0 := by decide +kernel
theorem dksX50_change_1 : cX50_change.data.toList.drop 24 = dktX50_change_1 := dk_seg dksX50_change_0 24 rfl rfl
theorem dX50_change_0 : decode cX50_change 0 = .ok (.aload_n 0, 1) := dk_42 (dk_at dksX50_change_0 0 rfl rfl)
theorem dX50_change_1 : decode cX50_change 1 = .ok (.iload_n 1, 1) := dk_27 (dk_at dksX50_change_0 1 rfl rfl)
theorem dX50_change_2 : decode cX50_change 2 = .ok (.iload_n 2, 1) := dk_28 (dk_at dksX50_change_0 2 rfl rfl)
theorem dX50_change_3 : decode cX50_change 3 = .ok (.iload_n 3, 1) := dk_29 (dk_at dksX50_change_0 3 rfl rfl)
theorem dX50_change_4 : decode cX50_change 4 = .ok (.lload 4, 2) := dk_22 4 (dk_at dksX50_change_0 4 rfl rfl)
theorem dX50_change_6 : decode cX50_change 6 = .ok (.lload 6, 2) := dk_22 6 (dk_at dksX50_change_0 6 rfl rfl)
theorem dX50_change_8 : decode cX50_change 8 = .ok (.invokevirtual 297, 3) := dk_182 1 41 (dk_at dksX50_change_0 8 rfl rfl)
theorem dX50_change_11 : decode cX50_change 11 = .ok (.ifCond .ne 5, 3) := dk_154 0 5 (dk_at dksX50_change_0 11 rfl rfl)
theorem dX50_change_14 : decode cX50_change 14 = .ok (.iconst 0, 1) := dk_3 (dk_at dksX50_change_0 14 rfl rfl)
theorem dX50_change_15 : decode cX50_change 15 = .ok (.ireturn, 1) := dk_172 (dk_at dksX50_change_0 15 rfl rfl)
theorem dX50_change_16 : decode cX50_change 16 = .ok (.aload_n 0, 1) := dk_42 (dk_at dksX50_change_0 16 rfl rfl)
theorem dX50_change_17 : decode cX50_change 17 = .ok (.invokevirtual 300, 3) := dk_182 1 44 (dk_at dksX50_change_0 17 rfl rfl)
theorem dX50_change_20 : decode cX50_change 20 = .ok (.istore 8, 2) := dk_54 8 (dk_at dksX50_change_0 20 rfl rfl)
theorem dX50_change_22 : decode cX50_change 22 = .ok (.iload 8, 2) := dk_21 8 (dk_at dksX50_change_0 22 rfl rfl)
theorem dX50_change_24 : decode cX50_change 24 = .ok (.ifCond .lt 7, 3) := dk_155 0 7 (dk_at dksX50_change_1 0 rfl rfl)
theorem dX50_change_27 : decode cX50_change 27 = .ok (.iconst 1, 1) := dk_4 (dk_at dksX50_change_1 3 rfl rfl)
theorem dX50_change_28 : decode cX50_change 28 = .ok (.goto 4, 3) := dk_167 0 4 (dk_at dksX50_change_1 4 rfl rfl)
theorem dX50_change_31 : decode cX50_change 31 = .ok (.iconst 0, 1) := dk_3 (dk_at dksX50_change_1 7 rfl rfl)
theorem dX50_change_32 : decode cX50_change 32 = .ok (.ireturn, 1) := dk_172 (dk_at dksX50_change_1 8 rfl rfl)
abbrev cX50_find : ByteArray := prog_64_method_61_code
def yX50_find : MethodName := ⟨RX50, "find", "(IIJ)I"⟩
def dkwX50_find_8 : List UInt8 := [46, 4, 96, 79, 2, 172]
abbrev dktX50_find_8 : List UInt8 := dkwX50_find_8 ++ []
def dkwX50_find_7 : List UInt8 := [42, 180, 0, 22, 21, 5, 21, 6, 79, 42, 180, 0, 25, 21, 5, 21, 7, 79, 42, 180, 0, 94, 3, 92]
abbrev dktX50_find_7 : List UInt8 := dkwX50_find_7 ++ dktX50_find_8
def dkwX50_find_6 : List UInt8 := [42, 182, 1, 44, 54, 9, 21, 9, 154, 0, 8, 21, 8, 167, 0, 4, 2, 172, 132, 8, 1, 167, 255, 175]
abbrev dktX50_find_6 : List UInt8 := dkwX50_find_6 ++ dktX50_find_7
def dkwX50_find_5 : List UInt8 := [21, 5, 16, 12, 79, 42, 180, 0, 94, 3, 92, 46, 4, 96, 79, 42, 28, 33, 182, 1, 48, 153, 0, 21]
abbrev dktX50_find_5 : List UInt8 := dkwX50_find_5 ++ dktX50_find_6
def dkwX50_find_4 : List UInt8 := [133, 20, 0, 116, 182, 0, 144, 153, 0, 58, 42, 180, 0, 22, 21, 5, 21, 8, 79, 42, 180, 0, 25]
abbrev dktX50_find_4 : List UInt8 := dkwX50_find_4 ++ dktX50_find_5
def dkwX50_find_3 : List UInt8 := [180, 0, 25, 21, 5, 46, 54, 7, 3, 54, 8, 21, 8, 16, 12, 163, 0, 80, 42, 27, 28, 3, 21, 8]
abbrev dktX50_find_3 : List UInt8 := dkwX50_find_3 ++ dktX50_find_4
def dkwX50_find_2 : List UInt8 := [154, 0, 5, 2, 172, 5, 6, 27, 104, 28, 96, 104, 54, 5, 42, 180, 0, 22, 21, 5, 46, 54, 6, 42]
abbrev dktX50_find_2 : List UInt8 := dkwX50_find_2 ++ dktX50_find_3
def dkwX50_find_1 : List UInt8 := [20, 0, 150, 148, 157, 0, 22, 42, 180, 0, 16, 27, 46, 5, 161, 0, 12, 42, 180, 0, 13, 3, 46]
abbrev dktX50_find_1 : List UInt8 := dkwX50_find_1 ++ dktX50_find_2
def dkwX50_find_0 : List UInt8 := [42, 27, 182, 0, 125, 153, 0, 44, 42, 28, 182, 0, 133, 153, 0, 36, 33, 9, 148, 155, 0, 30, 33]
abbrev dktX50_find_0 : List UInt8 := dkwX50_find_0 ++ dktX50_find_1
theorem dksX50_find_0 : cX50_find.data.toList.drop 0 = dktX50_find_0 := by decide +kernel
theorem dksX50_find_1 : cX50_find.data.toList.drop 23 = dktX50_find_1 := dk_seg dksX50_find_0 23 rfl rfl
theorem dksX50_find_2 : cX50_find.data.toList.drop 46 = dktX50_find_2 := dk_seg dksX50_find_1 23 rfl rfl
theorem dksX50_find_3 : cX50_find.data.toList.drop 70 = dktX50_find_3 := dk_seg dksX50_find_2 24 rfl rfl
theorem dksX50_find_4 : cX50_find.data.toList.drop 94 = dktX50_find_4 := dk_seg dksX50_find_3 24 rfl rfl
theorem dksX50_find_5 : cX50_find.data.toList.drop 117 = dktX50_find_5 := dk_seg dksX50_find_4 23 rfl rfl
theorem dksX50_find_6 : cX50_find.data.toList.drop 141 = dktX50_find_6 := dk_seg dksX50_find_5 24 rfl rfl
theorem dksX50_find_7 : cX50_find.data.toList.drop 165 = dktX50_find_7 := dk_seg dksX50_find_6 24 rfl rfl
theorem dksX50_find_8 : cX50_find.data.toList.drop 189 = dktX50_find_8 := dk_seg dksX50_find_7 24 rfl rfl
theorem dX50_find_0 : decode cX50_find 0 = .ok (.aload_n 0, 1) := dk_42 (dk_at dksX50_find_0 0 rfl rfl)
theorem dX50_find_1 : decode cX50_find 1 = .ok (.iload_n 1, 1) := dk_27 (dk_at dksX50_find_0 1 rfl rfl)
theorem dX50_find_2 : decode cX50_find 2 = .ok (.invokevirtual 125, 3) := dk_182 0 125 (dk_at dksX50_find_0 2 rfl rfl)
theorem dX50_find_5 : decode cX50_find 5 = .ok (.ifCond .eq 44, 3) := dk_153 0 44 (dk_at dksX50_find_0 5 rfl rfl)
theorem dX50_find_8 : decode cX50_find 8 = .ok (.aload_n 0, 1) := dk_42 (dk_at dksX50_find_0 8 rfl rfl)
theorem dX50_find_9 : decode cX50_find 9 = .ok (.iload_n 2, 1) := dk_28 (dk_at dksX50_find_0 9 rfl rfl)
theorem dX50_find_10 : decode cX50_find 10 = .ok (.invokevirtual 133, 3) := dk_182 0 133 (dk_at dksX50_find_0 10 rfl rfl)
theorem dX50_find_13 : decode cX50_find 13 = .ok (.ifCond .eq 36, 3) := dk_153 0 36 (dk_at dksX50_find_0 13 rfl rfl)
theorem dX50_find_16 : decode cX50_find 16 = .ok (.lload_n 3, 1) := dk_33 (dk_at dksX50_find_0 16 rfl rfl)
theorem dX50_find_17 : decode cX50_find 17 = .ok (.lconst 0, 1) := dk_9 (dk_at dksX50_find_0 17 rfl rfl)
theorem dX50_find_18 : decode cX50_find 18 = .ok (.lcmp, 1) := dk_148 (dk_at dksX50_find_0 18 rfl rfl)
theorem dX50_find_19 : decode cX50_find 19 = .ok (.ifCond .lt 30, 3) := dk_155 0 30 (dk_at dksX50_find_0 19 rfl rfl)
theorem dX50_find_22 : decode cX50_find 22 = .ok (.lload_n 3, 1) := dk_33 (dk_at dksX50_find_0 22 rfl rfl)
theorem dX50_find_23 : decode cX50_find 23 = .ok (.ldc2_w 150, 3) := dk_20 0 150 (dk_at dksX50_find_1 0 rfl rfl)
theorem dX50_find_26 : decode cX50_find 26 = .ok (.lcmp, 1) := dk_148 (dk_at dksX50_find_1 3 rfl rfl)
theorem dX50_find_27 : decode cX50_find 27 = .ok (.ifCond .gt 22, 3) := dk_157 0 22 (dk_at dksX50_find_1 4 rfl rfl)
theorem dX50_find_30 : decode cX50_find 30 = .ok (.aload_n 0, 1) := dk_42 (dk_at dksX50_find_1 7 rfl rfl)
theorem dX50_find_31 : decode cX50_find 31 = .ok (.getfield 16, 3) := dk_180 0 16 (dk_at dksX50_find_1 8 rfl rfl)
theorem dX50_find_34 : decode cX50_find 34 = .ok (.iload_n 1, 1) := dk_27 (dk_at dksX50_find_1 11 rfl rfl)
theorem dX50_find_35 : decode cX50_find 35 = .ok (.iaload, 1) := dk_46 (dk_at dksX50_find_1 12 rfl rfl)
theorem dX50_find_36 : decode cX50_find 36 = .ok (.iconst 2, 1) := dk_5 (dk_at dksX50_find_1 13 rfl rfl)
theorem dX50_find_37 : decode cX50_find 37 = .ok (.if_icmp .lt 12, 3) := dk_161 0 12 (dk_at dksX50_find_1 14 rfl rfl)
theorem dX50_find_40 : decode cX50_find 40 = .ok (.aload_n 0, 1) := dk_42 (dk_at dksX50_find_1 17 rfl rfl)
theorem dX50_find_41 : decode cX50_find 41 = .ok (.getfield 13, 3) := dk_180 0 13 (dk_at dksX50_find_1 18 rfl rfl)
theorem dX50_find_44 : decode cX50_find 44 = .ok (.iconst 0, 1) := dk_3 (dk_at dksX50_find_1 21 rfl rfl)
theorem dX50_find_45 : decode cX50_find 45 = .ok (.iaload, 1) := dk_46 (dk_at dksX50_find_1 22 rfl rfl)
theorem dX50_find_46 : decode cX50_find 46 = .ok (.ifCond .ne 5, 3) := dk_154 0 5 (dk_at dksX50_find_2 0 rfl rfl)
theorem dX50_find_49 : decode cX50_find 49 = .ok (.iconst (-1), 1) := dk_2 (dk_at dksX50_find_2 3 rfl rfl)
theorem dX50_find_50 : decode cX50_find 50 = .ok (.ireturn, 1) := dk_172 (dk_at dksX50_find_2 4 rfl rfl)
theorem dX50_find_51 : decode cX50_find 51 = .ok (.iconst 2, 1) := dk_5 (dk_at dksX50_find_2 5 rfl rfl)
theorem dX50_find_52 : decode cX50_find 52 = .ok (.iconst 3, 1) := dk_6 (dk_at dksX50_find_2 6 rfl rfl)
theorem dX50_find_53 : decode cX50_find 53 = .ok (.iload_n 1, 1) := dk_27 (dk_at dksX50_find_2 7 rfl rfl)
theorem dX50_find_54 : decode cX50_find 54 = .ok (.imul, 1) := dk_104 (dk_at dksX50_find_2 8 rfl rfl)
theorem dX50_find_55 : decode cX50_find 55 = .ok (.iload_n 2, 1) := dk_28 (dk_at dksX50_find_2 9 rfl rfl)
theorem dX50_find_56 : decode cX50_find 56 = .ok (.iadd, 1) := dk_96 (dk_at dksX50_find_2 10 rfl rfl)
theorem dX50_find_57 : decode cX50_find 57 = .ok (.imul, 1) := dk_104 (dk_at dksX50_find_2 11 rfl rfl)
theorem dX50_find_58 : decode cX50_find 58 = .ok (.istore 5, 2) := dk_54 5 (dk_at dksX50_find_2 12 rfl rfl)
theorem dX50_find_60 : decode cX50_find 60 = .ok (.aload_n 0, 1) := dk_42 (dk_at dksX50_find_2 14 rfl rfl)
theorem dX50_find_61 : decode cX50_find 61 = .ok (.getfield 22, 3) := dk_180 0 22 (dk_at dksX50_find_2 15 rfl rfl)
theorem dX50_find_64 : decode cX50_find 64 = .ok (.iload 5, 2) := dk_21 5 (dk_at dksX50_find_2 18 rfl rfl)
theorem dX50_find_66 : decode cX50_find 66 = .ok (.iaload, 1) := dk_46 (dk_at dksX50_find_2 20 rfl rfl)
theorem dX50_find_67 : decode cX50_find 67 = .ok (.istore 6, 2) := dk_54 6 (dk_at dksX50_find_2 21 rfl rfl)
theorem dX50_find_69 : decode cX50_find 69 = .ok (.aload_n 0, 1) := dk_42 (dk_at dksX50_find_2 23 rfl rfl)
theorem dX50_find_70 : decode cX50_find 70 = .ok (.getfield 25, 3) := dk_180 0 25 (dk_at dksX50_find_3 0 rfl rfl)
theorem dX50_find_73 : decode cX50_find 73 = .ok (.iload 5, 2) := dk_21 5 (dk_at dksX50_find_3 3 rfl rfl)
theorem dX50_find_75 : decode cX50_find 75 = .ok (.iaload, 1) := dk_46 (dk_at dksX50_find_3 5 rfl rfl)
theorem dX50_find_76 : decode cX50_find 76 = .ok (.istore 7, 2) := dk_54 7 (dk_at dksX50_find_3 6 rfl rfl)
theorem dX50_find_78 : decode cX50_find 78 = .ok (.iconst 0, 1) := dk_3 (dk_at dksX50_find_3 8 rfl rfl)
theorem dX50_find_79 : decode cX50_find 79 = .ok (.istore 8, 2) := dk_54 8 (dk_at dksX50_find_3 9 rfl rfl)
theorem dX50_find_81 : decode cX50_find 81 = .ok (.iload 8, 2) := dk_21 8 (dk_at dksX50_find_3 11 rfl rfl)
theorem dX50_find_83 : decode cX50_find 83 = .ok (.bipush 12, 2) := dk_16 12 (dk_at dksX50_find_3 13 rfl rfl)
theorem dX50_find_85 : decode cX50_find 85 = .ok (.if_icmp .gt 80, 3) := dk_163 0 80 (dk_at dksX50_find_3 15 rfl rfl)
theorem dX50_find_88 : decode cX50_find 88 = .ok (.aload_n 0, 1) := dk_42 (dk_at dksX50_find_3 18 rfl rfl)
theorem dX50_find_89 : decode cX50_find 89 = .ok (.iload_n 1, 1) := dk_27 (dk_at dksX50_find_3 19 rfl rfl)
theorem dX50_find_90 : decode cX50_find 90 = .ok (.iload_n 2, 1) := dk_28 (dk_at dksX50_find_3 20 rfl rfl)
theorem dX50_find_91 : decode cX50_find 91 = .ok (.iconst 0, 1) := dk_3 (dk_at dksX50_find_3 21 rfl rfl)
theorem dX50_find_92 : decode cX50_find 92 = .ok (.iload 8, 2) := dk_21 8 (dk_at dksX50_find_3 22 rfl rfl)
theorem dX50_find_94 : decode cX50_find 94 = .ok (.i2l, 1) := dk_133 (dk_at dksX50_find_4 0 rfl rfl)
theorem dX50_find_95 : decode cX50_find 95 = .ok (.ldc2_w 116, 3) := dk_20 0 116 (dk_at dksX50_find_4 1 rfl rfl)
theorem dX50_find_98 : decode cX50_find 98 = .ok (.invokevirtual 144, 3) := dk_182 0 144 (dk_at dksX50_find_4 4 rfl rfl)
theorem dX50_find_101 : decode cX50_find 101 = .ok (.ifCond .eq 58, 3) := dk_153 0 58 (dk_at dksX50_find_4 7 rfl rfl)
theorem dX50_find_104 : decode cX50_find 104 = .ok (.aload_n 0, 1) := dk_42 (dk_at dksX50_find_4 10 rfl rfl)
theorem dX50_find_105 : decode cX50_find 105 = .ok (.getfield 22, 3) := dk_180 0 22 (dk_at dksX50_find_4 11 rfl rfl)
theorem dX50_find_108 : decode cX50_find 108 = .ok (.iload 5, 2) := dk_21 5 (dk_at dksX50_find_4 14 rfl rfl)
theorem dX50_find_110 : decode cX50_find 110 = .ok (.iload 8, 2) := dk_21 8 (dk_at dksX50_find_4 16 rfl rfl)
theorem dX50_find_112 : decode cX50_find 112 = .ok (.iastore, 1) := dk_79 (dk_at dksX50_find_4 18 rfl rfl)
theorem dX50_find_113 : decode cX50_find 113 = .ok (.aload_n 0, 1) := dk_42 (dk_at dksX50_find_4 19 rfl rfl)
theorem dX50_find_114 : decode cX50_find 114 = .ok (.getfield 25, 3) := dk_180 0 25 (dk_at dksX50_find_4 20 rfl rfl)
theorem dX50_find_117 : decode cX50_find 117 = .ok (.iload 5, 2) := dk_21 5 (dk_at dksX50_find_5 0 rfl rfl)
theorem dX50_find_119 : decode cX50_find 119 = .ok (.bipush 12, 2) := dk_16 12 (dk_at dksX50_find_5 2 rfl rfl)
theorem dX50_find_121 : decode cX50_find 121 = .ok (.iastore, 1) := dk_79 (dk_at dksX50_find_5 4 rfl rfl)
theorem dX50_find_122 : decode cX50_find 122 = .ok (.aload_n 0, 1) := dk_42 (dk_at dksX50_find_5 5 rfl rfl)
theorem dX50_find_123 : decode cX50_find 123 = .ok (.getfield 94, 3) := dk_180 0 94 (dk_at dksX50_find_5 6 rfl rfl)
theorem dX50_find_126 : decode cX50_find 126 = .ok (.iconst 0, 1) := dk_3 (dk_at dksX50_find_5 9 rfl rfl)
theorem dX50_find_127 : decode cX50_find 127 = .ok (.dup2, 1) := dk_92 (dk_at dksX50_find_5 10 rfl rfl)
theorem dX50_find_128 : decode cX50_find 128 = .ok (.iaload, 1) := dk_46 (dk_at dksX50_find_5 11 rfl rfl)
theorem dX50_find_129 : decode cX50_find 129 = .ok (.iconst 1, 1) := dk_4 (dk_at dksX50_find_5 12 rfl rfl)
theorem dX50_find_130 : decode cX50_find 130 = .ok (.iadd, 1) := dk_96 (dk_at dksX50_find_5 13 rfl rfl)
theorem dX50_find_131 : decode cX50_find 131 = .ok (.iastore, 1) := dk_79 (dk_at dksX50_find_5 14 rfl rfl)
theorem dX50_find_132 : decode cX50_find 132 = .ok (.aload_n 0, 1) := dk_42 (dk_at dksX50_find_5 15 rfl rfl)
theorem dX50_find_133 : decode cX50_find 133 = .ok (.iload_n 2, 1) := dk_28 (dk_at dksX50_find_5 16 rfl rfl)
theorem dX50_find_134 : decode cX50_find 134 = .ok (.lload_n 3, 1) := dk_33 (dk_at dksX50_find_5 17 rfl rfl)
theorem dX50_find_135 : decode cX50_find 135 = .ok (.invokevirtual 304, 3) := dk_182 1 48 (dk_at dksX50_find_5 18 rfl rfl)
theorem dX50_find_138 : decode cX50_find 138 = .ok (.ifCond .eq 21, 3) := dk_153 0 21 (dk_at dksX50_find_5 21 rfl rfl)
theorem dX50_find_141 : decode cX50_find 141 = .ok (.aload_n 0, 1) := dk_42 (dk_at dksX50_find_6 0 rfl rfl)
theorem dX50_find_142 : decode cX50_find 142 = .ok (.invokevirtual 300, 3) := dk_182 1 44 (dk_at dksX50_find_6 1 rfl rfl)
theorem dX50_find_145 : decode cX50_find 145 = .ok (.istore 9, 2) := dk_54 9 (dk_at dksX50_find_6 4 rfl rfl)
theorem dX50_find_147 : decode cX50_find 147 = .ok (.iload 9, 2) := dk_21 9 (dk_at dksX50_find_6 6 rfl rfl)
theorem dX50_find_149 : decode cX50_find 149 = .ok (.ifCond .ne 8, 3) := dk_154 0 8 (dk_at dksX50_find_6 8 rfl rfl)
theorem dX50_find_152 : decode cX50_find 152 = .ok (.iload 8, 2) := dk_21 8 (dk_at dksX50_find_6 11 rfl rfl)
theorem dX50_find_154 : decode cX50_find 154 = .ok (.goto 4, 3) := dk_167 0 4 (dk_at dksX50_find_6 13 rfl rfl)
theorem dX50_find_157 : decode cX50_find 157 = .ok (.iconst (-1), 1) := dk_2 (dk_at dksX50_find_6 16 rfl rfl)
theorem dX50_find_158 : decode cX50_find 158 = .ok (.ireturn, 1) := dk_172 (dk_at dksX50_find_6 17 rfl rfl)
theorem dX50_find_159 : decode cX50_find 159 = .ok (.iinc 8 1, 3) := dk_132 8 1 (dk_at dksX50_find_6 18 rfl rfl)
theorem dX50_find_162 : decode cX50_find 162 = .ok (.goto (-81), 3) := dk_167 255 175 (dk_at dksX50_find_6 21 rfl rfl)
theorem dX50_find_165 : decode cX50_find 165 = .ok (.aload_n 0, 1) := dk_42 (dk_at dksX50_find_7 0 rfl rfl)
theorem dX50_find_166 : decode cX50_find 166 = .ok (.getfield 22, 3) := dk_180 0 22 (dk_at dksX50_find_7 1 rfl rfl)
theorem dX50_find_169 : decode cX50_find 169 = .ok (.iload 5, 2) := dk_21 5 (dk_at dksX50_find_7 4 rfl rfl)
theorem dX50_find_171 : decode cX50_find 171 = .ok (.iload 6, 2) := dk_21 6 (dk_at dksX50_find_7 6 rfl rfl)
theorem dX50_find_173 : decode cX50_find 173 = .ok (.iastore, 1) := dk_79 (dk_at dksX50_find_7 8 rfl rfl)
theorem dX50_find_174 : decode cX50_find 174 = .ok (.aload_n 0, 1) := dk_42 (dk_at dksX50_find_7 9 rfl rfl)
theorem dX50_find_175 : decode cX50_find 175 = .ok (.getfield 25, 3) := dk_180 0 25 (dk_at dksX50_find_7 10 rfl rfl)
theorem dX50_find_178 : decode cX50_find 178 = .ok (.iload 5, 2) := dk_21 5 (dk_at dksX50_find_7 13 rfl rfl)
theorem dX50_find_180 : decode cX50_find 180 = .ok (.iload 7, 2) := dk_21 7 (dk_at dksX50_find_7 15 rfl rfl)
theorem dX50_find_182 : decode cX50_find 182 = .ok (.iastore, 1) := dk_79 (dk_at dksX50_find_7 17 rfl rfl)
theorem dX50_find_183 : decode cX50_find 183 = .ok (.aload_n 0, 1) := dk_42 (dk_at dksX50_find_7 18 rfl rfl)
theorem dX50_find_184 : decode cX50_find 184 = .ok (.getfield 94, 3) := dk_180 0 94 (dk_at dksX50_find_7 19 rfl rfl)
theorem dX50_find_187 : decode cX50_find 187 = .ok (.iconst 0, 1) := dk_3 (dk_at dksX50_find_7 22 rfl rfl)
theorem dX50_find_188 : decode cX50_find 188 = .ok (.dup2, 1) := dk_92 (dk_at dksX50_find_7 23 rfl rfl)
theorem dX50_find_189 : decode cX50_find 189 = .ok (.iaload, 1) := dk_46 (dk_at dksX50_find_8 0 rfl rfl)
theorem dX50_find_190 : decode cX50_find 190 = .ok (.iconst 1, 1) := dk_4 (dk_at dksX50_find_8 1 rfl rfl)
theorem dX50_find_191 : decode cX50_find 191 = .ok (.iadd, 1) := dk_96 (dk_at dksX50_find_8 2 rfl rfl)
theorem dX50_find_192 : decode cX50_find 192 = .ok (.iastore, 1) := dk_79 (dk_at dksX50_find_8 3 rfl rfl)
theorem dX50_find_193 : decode cX50_find 193 = .ok (.iconst (-1), 1) := dk_2 (dk_at dksX50_find_8 4 rfl rfl)
theorem dX50_find_194 : decode cX50_find 194 = .ok (.ireturn, 1) := dk_172 (dk_at dksX50_find_8 5 rfl rfl)
abbrev cX50_brings : ByteArray := prog_64_method_62_code
def yX50_brings : MethodName := ⟨RX50, "brings", "(IJ)Z"⟩
def dkwX50_brings_2 : List UInt8 := [172]
abbrev dktX50_brings_2 : List UInt8 := dkwX50_brings_2 ++ []
def dkwX50_brings_1 : List UInt8 := [182, 1, 13, 42, 3, 3, 182, 1, 16, 42, 3, 182, 0, 225, 32, 148, 155, 0, 7, 4, 167, 0, 4, 3]
abbrev dktX50_brings_1 : List UInt8 := dkwX50_brings_1 ++ dktX50_brings_2
def dkwX50_brings_0 : List UInt8 := [42, 3, 182, 0, 242, 42, 3, 182, 1, 1, 155, 0, 5, 3, 172, 42, 3, 182, 1, 10, 42, 3, 3, 27]
abbrev dktX50_brings_0 : List UInt8 := dkwX50_brings_0 ++ dktX50_brings_1
theorem dksX50_brings_0 : cX50_brings.data.toList.drop 0 = dktX50_brings_0 := by decide +kernel
theorem dksX50_brings_1 : cX50_brings.data.toList.drop 24 = dktX50_brings_1 := dk_seg dksX50_brings_0 24 rfl rfl
theorem dksX50_brings_2 : cX50_brings.data.toList.drop 48 = dktX50_brings_2 := dk_seg dksX50_brings_1 24 rfl rfl
theorem dX50_brings_0 : decode cX50_brings 0 = .ok (.aload_n 0, 1) := dk_42 (dk_at dksX50_brings_0 0 rfl rfl)
theorem dX50_brings_1 : decode cX50_brings 1 = .ok (.iconst 0, 1) := dk_3 (dk_at dksX50_brings_0 1 rfl rfl)
theorem dX50_brings_2 : decode cX50_brings 2 = .ok (.invokevirtual 242, 3) := dk_182 0 242 (dk_at dksX50_brings_0 2 rfl rfl)
theorem dX50_brings_5 : decode cX50_brings 5 = .ok (.aload_n 0, 1) := dk_42 (dk_at dksX50_brings_0 5 rfl rfl)
theorem dX50_brings_6 : decode cX50_brings 6 = .ok (.iconst 0, 1) := dk_3 (dk_at dksX50_brings_0 6 rfl rfl)
theorem dX50_brings_7 : decode cX50_brings 7 = .ok (.invokevirtual 257, 3) := dk_182 1 1 (dk_at dksX50_brings_0 7 rfl rfl)
theorem dX50_brings_10 : decode cX50_brings 10 = .ok (.ifCond .lt 5, 3) := dk_155 0 5 (dk_at dksX50_brings_0 10 rfl rfl)
theorem dX50_brings_13 : decode cX50_brings 13 = .ok (.iconst 0, 1) := dk_3 (dk_at dksX50_brings_0 13 rfl rfl)
theorem dX50_brings_14 : decode cX50_brings 14 = .ok (.ireturn, 1) := dk_172 (dk_at dksX50_brings_0 14 rfl rfl)
theorem dX50_brings_15 : decode cX50_brings 15 = .ok (.aload_n 0, 1) := dk_42 (dk_at dksX50_brings_0 15 rfl rfl)
theorem dX50_brings_16 : decode cX50_brings 16 = .ok (.iconst 0, 1) := dk_3 (dk_at dksX50_brings_0 16 rfl rfl)
theorem dX50_brings_17 : decode cX50_brings 17 = .ok (.invokevirtual 266, 3) := dk_182 1 10 (dk_at dksX50_brings_0 17 rfl rfl)
theorem dX50_brings_20 : decode cX50_brings 20 = .ok (.aload_n 0, 1) := dk_42 (dk_at dksX50_brings_0 20 rfl rfl)
theorem dX50_brings_21 : decode cX50_brings 21 = .ok (.iconst 0, 1) := dk_3 (dk_at dksX50_brings_0 21 rfl rfl)
theorem dX50_brings_22 : decode cX50_brings 22 = .ok (.iconst 0, 1) := dk_3 (dk_at dksX50_brings_0 22 rfl rfl)
theorem dX50_brings_23 : decode cX50_brings 23 = .ok (.iload_n 1, 1) := dk_27 (dk_at dksX50_brings_0 23 rfl rfl)
theorem dX50_brings_24 : decode cX50_brings 24 = .ok (.invokevirtual 269, 3) := dk_182 1 13 (dk_at dksX50_brings_1 0 rfl rfl)
theorem dX50_brings_27 : decode cX50_brings 27 = .ok (.aload_n 0, 1) := dk_42 (dk_at dksX50_brings_1 3 rfl rfl)
theorem dX50_brings_28 : decode cX50_brings 28 = .ok (.iconst 0, 1) := dk_3 (dk_at dksX50_brings_1 4 rfl rfl)
theorem dX50_brings_29 : decode cX50_brings 29 = .ok (.iconst 0, 1) := dk_3 (dk_at dksX50_brings_1 5 rfl rfl)
theorem dX50_brings_30 : decode cX50_brings 30 = .ok (.invokevirtual 272, 3) := dk_182 1 16 (dk_at dksX50_brings_1 6 rfl rfl)
theorem dX50_brings_33 : decode cX50_brings 33 = .ok (.aload_n 0, 1) := dk_42 (dk_at dksX50_brings_1 9 rfl rfl)
theorem dX50_brings_34 : decode cX50_brings 34 = .ok (.iconst 0, 1) := dk_3 (dk_at dksX50_brings_1 10 rfl rfl)
theorem dX50_brings_35 : decode cX50_brings 35 = .ok (.invokevirtual 225, 3) := dk_182 0 225 (dk_at dksX50_brings_1 11 rfl rfl)
theorem dX50_brings_38 : decode cX50_brings 38 = .ok (.lload_n 2, 1) := dk_32 (dk_at dksX50_brings_1 14 rfl rfl)
theorem dX50_brings_39 : decode cX50_brings 39 = .ok (.lcmp, 1) := dk_148 (dk_at dksX50_brings_1 15 rfl rfl)
theorem dX50_brings_40 : decode cX50_brings 40 = .ok (.ifCond .lt 7, 3) := dk_155 0 7 (dk_at dksX50_brings_1 16 rfl rfl)
theorem dX50_brings_43 : decode cX50_brings 43 = .ok (.iconst 1, 1) := dk_4 (dk_at dksX50_brings_1 19 rfl rfl)
theorem dX50_brings_44 : decode cX50_brings 44 = .ok (.goto 4, 3) := dk_167 0 4 (dk_at dksX50_brings_1 20 rfl rfl)
theorem dX50_brings_47 : decode cX50_brings 47 = .ok (.iconst 0, 1) := dk_3 (dk_at dksX50_brings_1 23 rfl rfl)
theorem dX50_brings_48 : decode cX50_brings 48 = .ok (.ireturn, 1) := dk_172 (dk_at dksX50_brings_2 0 rfl rfl)
abbrev cX50_kept : ByteArray := prog_64_method_63_code
def yX50_kept : MethodName := ⟨RX50, "kept", "()Z"⟩
theorem dX50_kept_0 : decode cX50_kept 0 = .ok (.aload_n 0, 1) := by decide +kernel
theorem dX50_kept_1 : decode cX50_kept 1 = .ok (.getfield 118, 3) := by decide +kernel
theorem dX50_kept_4 : decode cX50_kept 4 = .ok (.ireturn, 1) := by decide +kernel
theorem q456 : (Jvm.Cond.initialized "WasteHouseModel$ShareSolveModel") ∈ lw_all := lw_g (lw_at lw_m1 64 rfl) rfl
theorem q2032 : (Jvm.Cond.selects "WasteHouseModel$ShareSolveModel" ({ cls := "java/lang/Object", name := "getClass", desc := "()Ljava/lang/Class;" } : Jvm.MethodName) ({ cls := "java/lang/Object", name := "getClass", desc := "()Ljava/lang/Class;" } : Jvm.MethodName)) ∈ lw_all := lw_g (lw_at lw_m7 200 rfl) rfl
theorem q3142 : (Jvm.Cond.selects "WasteHouseModel$ShareSolveModel" ({ cls := "java/lang/Object", name := "equals", desc := "(Ljava/lang/Object;)Z" } : Jvm.MethodName) ({ cls := "java/lang/Object", name := "equals", desc := "(Ljava/lang/Object;)Z" } : Jvm.MethodName)) ∈ lw_all := lw_g (lw_at lw_m12 110 rfl) rfl
theorem q3660 : (Jvm.Cond.selects "WasteHouseModel$ShareSolveModel" ({ cls := "java/lang/Object", name := "hashCode", desc := "()I" } : Jvm.MethodName) ({ cls := "java/lang/Object", name := "hashCode", desc := "()I" } : Jvm.MethodName)) ∈ lw_all := lw_g (lw_at lw_m14 148 rfl) rfl
theorem q6765 : (Jvm.Cond.instantiable "WasteHouseModel$ShareSolveModel" (34 : Nat)) ∈ lw_all := lw_g (lw_at lw_m27 133 rfl) rfl
theorem q6767 : (Jvm.Cond.instanceMethod ({ cls := "WasteHouseModel$ShareSolveModel", name := "<init>", desc := "(I)V" } : Jvm.MethodName)) ∈ lw_all := lw_g (lw_at lw_m27 135 rfl) rfl
theorem q6768 : (Jvm.Cond.code ({ cls := "WasteHouseModel$ShareSolveModel", name := "<init>", desc := "(I)V" } : Jvm.MethodName) prog_64_method_1_code (3 : Nat) (Option.none : Option Jvm.ClassFile.FieldType)) ∈ lw_all := lw_g (lw_at lw_m27 136 rfl) rfl
theorem q6769 : (Jvm.Cond.methodLink "WasteHouseModel$ShareSolveModel" (1 : Nat) ({ cls := "java/lang/Object", name := "<init>", desc := "()V" } : Jvm.MethodName)) ∈ lw_all := lw_g (lw_at lw_m27 137 rfl) rfl
theorem q6770 : (Jvm.Cond.constantLong "WasteHouseModel$ShareSolveModel" (100 : Nat) (2147483647 : Int64)) ∈ lw_all := lw_g (lw_at lw_m27 138 rfl) rfl
theorem q6771 : (Jvm.Cond.constantLong "WasteHouseModel$ShareSolveModel" (102 : Nat) (2147483629 : Int64)) ∈ lw_all := lw_g (lw_at lw_m27 139 rfl) rfl
theorem q6772 : (Jvm.Cond.constantLong "WasteHouseModel$ShareSolveModel" (104 : Nat) (2147483587 : Int64)) ∈ lw_all := lw_g (lw_at lw_m27 140 rfl) rfl
theorem q6773 : (Jvm.Cond.constantLong "WasteHouseModel$ShareSolveModel" (106 : Nat) (2147483579 : Int64)) ∈ lw_all := lw_g (lw_at lw_m27 141 rfl) rfl
theorem q6774 : (Jvm.Cond.constantLong "WasteHouseModel$ShareSolveModel" (108 : Nat) (2147483563 : Int64)) ∈ lw_all := lw_g (lw_at lw_m27 142 rfl) rfl
theorem q6775 : (Jvm.Cond.constantLong "WasteHouseModel$ShareSolveModel" (110 : Nat) (2147483549 : Int64)) ∈ lw_all := lw_g (lw_at lw_m27 143 rfl) rfl
theorem q6776 : (Jvm.Cond.constantLong "WasteHouseModel$ShareSolveModel" (112 : Nat) (2147483543 : Int64)) ∈ lw_all := lw_g (lw_at lw_m27 144 rfl) rfl
theorem q6777 : (Jvm.Cond.constantLong "WasteHouseModel$ShareSolveModel" (114 : Nat) (2147483497 : Int64)) ∈ lw_all := lw_g (lw_at lw_m27 145 rfl) rfl
theorem q6778 : (Jvm.Cond.fieldLink "WasteHouseModel$ShareSolveModel" (97 : Nat) "WasteHouseModel$ShareSolveModel" "kinds" "I") ∈ lw_all := lw_g (lw_at lw_m27 146 rfl) rfl
theorem q6779 : (Jvm.Cond.fieldLink "WasteHouseModel$ShareSolveModel" (7 : Nat) "WasteHouseModel$ShareSolveModel" "machines" "[I") ∈ lw_all := lw_g (lw_at lw_m27 147 rfl) rfl
theorem q6780 : (Jvm.Cond.fieldLink "WasteHouseModel$ShareSolveModel" (13 : Nat) "WasteHouseModel$ShareSolveModel" "ports" "[I") ∈ lw_all := lw_g (lw_at lw_m27 148 rfl) rfl
theorem q6781 : (Jvm.Cond.fieldLink "WasteHouseModel$ShareSolveModel" (16 : Nat) "WasteHouseModel$ShareSolveModel" "outs" "[I") ∈ lw_all := lw_g (lw_at lw_m27 149 rfl) rfl
theorem q6782 : (Jvm.Cond.fieldLink "WasteHouseModel$ShareSolveModel" (19 : Nat) "WasteHouseModel$ShareSolveModel" "joins" "[I") ∈ lw_all := lw_g (lw_at lw_m27 150 rfl) rfl
theorem q6783 : (Jvm.Cond.fieldLink "WasteHouseModel$ShareSolveModel" (22 : Nat) "WasteHouseModel$ShareSolveModel" "shareAbove" "[I") ∈ lw_all := lw_g (lw_at lw_m27 151 rfl) rfl
theorem q6784 : (Jvm.Cond.fieldLink "WasteHouseModel$ShareSolveModel" (25 : Nat) "WasteHouseModel$ShareSolveModel" "shareBelow" "[I") ∈ lw_all := lw_g (lw_at lw_m27 152 rfl) rfl
theorem q6785 : (Jvm.Cond.fieldLink "WasteHouseModel$ShareSolveModel" (28 : Nat) "WasteHouseModel$ShareSolveModel" "crushTo" "[I") ∈ lw_all := lw_g (lw_at lw_m27 153 rfl) rfl
theorem q6786 : (Jvm.Cond.fieldLink "WasteHouseModel$ShareSolveModel" (31 : Nat) "WasteHouseModel$ShareSolveModel" "crushAbove" "[I") ∈ lw_all := lw_g (lw_at lw_m27 154 rfl) rfl
theorem q6787 : (Jvm.Cond.fieldLink "WasteHouseModel$ShareSolveModel" (34 : Nat) "WasteHouseModel$ShareSolveModel" "crushBelow" "[I") ∈ lw_all := lw_g (lw_at lw_m27 155 rfl) rfl
theorem q6788 : (Jvm.Cond.fieldLink "WasteHouseModel$ShareSolveModel" (37 : Nat) "WasteHouseModel$ShareSolveModel" "feeds" "[I") ∈ lw_all := lw_g (lw_at lw_m27 156 rfl) rfl
theorem q6789 : (Jvm.Cond.fieldLink "WasteHouseModel$ShareSolveModel" (40 : Nat) "WasteHouseModel$ShareSolveModel" "spanned" "[Z") ∈ lw_all := lw_g (lw_at lw_m27 157 rfl) rfl
theorem q6790 : (Jvm.Cond.fieldLink "WasteHouseModel$ShareSolveModel" (44 : Nat) "WasteHouseModel$ShareSolveModel" "lows" "[J") ∈ lw_all := lw_g (lw_at lw_m27 158 rfl) rfl
theorem q6791 : (Jvm.Cond.fieldLink "WasteHouseModel$ShareSolveModel" (48 : Nat) "WasteHouseModel$ShareSolveModel" "highs" "[J") ∈ lw_all := lw_g (lw_at lw_m27 159 rfl) rfl
theorem q6792 : (Jvm.Cond.fieldLink "WasteHouseModel$ShareSolveModel" (260 : Nat) "WasteHouseModel$ShareSolveModel" "isKnown" "Z") ∈ lw_all := lw_g (lw_at lw_m27 160 rfl) rfl
theorem q6793 : (Jvm.Cond.fieldLink "WasteHouseModel$ShareSolveModel" (118 : Nat) "WasteHouseModel$ShareSolveModel" "isKept" "Z") ∈ lw_all := lw_g (lw_at lw_m27 161 rfl) rfl
theorem q6794 : (Jvm.Cond.fieldLink "WasteHouseModel$ShareSolveModel" (51 : Nat) "WasteHouseModel$ShareSolveModel" "primes" "[J") ∈ lw_all := lw_g (lw_at lw_m27 162 rfl) rfl
theorem q6795 : (Jvm.Cond.fieldLink "WasteHouseModel$ShareSolveModel" (54 : Nat) "WasteHouseModel$ShareSolveModel" "wholes" "[J") ∈ lw_all := lw_g (lw_at lw_m27 163 rfl) rfl
theorem q6796 : (Jvm.Cond.fieldLink "WasteHouseModel$ShareSolveModel" (57 : Nat) "WasteHouseModel$ShareSolveModel" "table" "[J") ∈ lw_all := lw_g (lw_at lw_m27 164 rfl) rfl
theorem q6797 : (Jvm.Cond.fieldLink "WasteHouseModel$ShareSolveModel" (60 : Nat) "WasteHouseModel$ShareSolveModel" "ways" "[J") ∈ lw_all := lw_g (lw_at lw_m27 165 rfl) rfl
theorem q6798 : (Jvm.Cond.fieldLink "WasteHouseModel$ShareSolveModel" (63 : Nat) "WasteHouseModel$ShareSolveModel" "matrix" "[J") ∈ lw_all := lw_g (lw_at lw_m27 166 rfl) rfl
theorem q6799 : (Jvm.Cond.fieldLink "WasteHouseModel$ShareSolveModel" (66 : Nat) "WasteHouseModel$ShareSolveModel" "power" "[J") ∈ lw_all := lw_g (lw_at lw_m27 167 rfl) rfl
theorem q6800 : (Jvm.Cond.fieldLink "WasteHouseModel$ShareSolveModel" (69 : Nat) "WasteHouseModel$ShareSolveModel" "next" "[J") ∈ lw_all := lw_g (lw_at lw_m27 168 rfl) rfl
theorem q6801 : (Jvm.Cond.fieldLink "WasteHouseModel$ShareSolveModel" (72 : Nat) "WasteHouseModel$ShareSolveModel" "turned" "[J") ∈ lw_all := lw_g (lw_at lw_m27 169 rfl) rfl
theorem q6802 : (Jvm.Cond.fieldLink "WasteHouseModel$ShareSolveModel" (75 : Nat) "WasteHouseModel$ShareSolveModel" "over" "[J") ∈ lw_all := lw_g (lw_at lw_m27 170 rfl) rfl
theorem q6803 : (Jvm.Cond.fieldLink "WasteHouseModel$ShareSolveModel" (78 : Nat) "WasteHouseModel$ShareSolveModel" "big" "[J") ∈ lw_all := lw_g (lw_at lw_m27 171 rfl) rfl
theorem q6804 : (Jvm.Cond.fieldLink "WasteHouseModel$ShareSolveModel" (81 : Nat) "WasteHouseModel$ShareSolveModel" "residues" "[J") ∈ lw_all := lw_g (lw_at lw_m27 172 rfl) rfl
theorem q6805 : (Jvm.Cond.fieldLink "WasteHouseModel$ShareSolveModel" (84 : Nat) "WasteHouseModel$ShareSolveModel" "digits" "[J") ∈ lw_all := lw_g (lw_at lw_m27 173 rfl) rfl
theorem q6806 : (Jvm.Cond.fieldLink "WasteHouseModel$ShareSolveModel" (203 : Nat) "WasteHouseModel$ShareSolveModel" "used" "I") ∈ lw_all := lw_g (lw_at lw_m27 174 rfl) rfl
theorem q6807 : (Jvm.Cond.fieldLink "WasteHouseModel$ShareSolveModel" (206 : Nat) "WasteHouseModel$ShareSolveModel" "isBeyond" "Z") ∈ lw_all := lw_g (lw_at lw_m27 175 rfl) rfl
theorem q6808 : (Jvm.Cond.fieldLink "WasteHouseModel$ShareSolveModel" (87 : Nat) "WasteHouseModel$ShareSolveModel" "weights" "[J") ∈ lw_all := lw_g (lw_at lw_m27 176 rfl) rfl
theorem q6809 : (Jvm.Cond.fieldLink "WasteHouseModel$ShareSolveModel" (90 : Nat) "WasteHouseModel$ShareSolveModel" "held" "I") ∈ lw_all := lw_g (lw_at lw_m27 177 rfl) rfl
theorem q6810 : (Jvm.Cond.fieldLink "WasteHouseModel$ShareSolveModel" (245 : Nat) "WasteHouseModel$ShareSolveModel" "heldTurn" "I") ∈ lw_all := lw_g (lw_at lw_m27 178 rfl) rfl
theorem q6811 : (Jvm.Cond.fieldLink "WasteHouseModel$ShareSolveModel" (94 : Nat) "WasteHouseModel$ShareSolveModel" "turns" "[I") ∈ lw_all := lw_g (lw_at lw_m27 179 rfl) rfl
theorem q6812 : (Jvm.Cond.laysFinal "WasteHouseModel$ShareSolveModel" "WasteHouseModel$ShareSolveModel" "kinds" "I") ∈ lw_all := lw_g (lw_at lw_m27 180 rfl) rfl
theorem q6813 : (Jvm.Cond.soleField "WasteHouseModel$ShareSolveModel" "kinds") ∈ lw_all := lw_g (lw_at lw_m27 181 rfl) rfl
theorem q6814 : (Jvm.Cond.laysFinal "WasteHouseModel$ShareSolveModel" "WasteHouseModel$ShareSolveModel" "machines" "[I") ∈ lw_all := lw_g (lw_at lw_m27 182 rfl) rfl
theorem q6815 : (Jvm.Cond.soleField "WasteHouseModel$ShareSolveModel" "machines") ∈ lw_all := lw_g (lw_at lw_m27 183 rfl) rfl
theorem q6816 : (Jvm.Cond.laysFinal "WasteHouseModel$ShareSolveModel" "WasteHouseModel$ShareSolveModel" "ports" "[I") ∈ lw_all := lw_g (lw_at lw_m27 184 rfl) rfl
theorem q6817 : (Jvm.Cond.soleField "WasteHouseModel$ShareSolveModel" "ports") ∈ lw_all := lw_g (lw_at lw_m27 185 rfl) rfl
theorem q6818 : (Jvm.Cond.laysFinal "WasteHouseModel$ShareSolveModel" "WasteHouseModel$ShareSolveModel" "outs" "[I") ∈ lw_all := lw_g (lw_at lw_m27 186 rfl) rfl
theorem q6819 : (Jvm.Cond.soleField "WasteHouseModel$ShareSolveModel" "outs") ∈ lw_all := lw_g (lw_at lw_m27 187 rfl) rfl
theorem q6820 : (Jvm.Cond.laysFinal "WasteHouseModel$ShareSolveModel" "WasteHouseModel$ShareSolveModel" "joins" "[I") ∈ lw_all := lw_g (lw_at lw_m27 188 rfl) rfl
theorem q6821 : (Jvm.Cond.soleField "WasteHouseModel$ShareSolveModel" "joins") ∈ lw_all := lw_g (lw_at lw_m27 189 rfl) rfl
theorem q6822 : (Jvm.Cond.laysFinal "WasteHouseModel$ShareSolveModel" "WasteHouseModel$ShareSolveModel" "shareAbove" "[I") ∈ lw_all := lw_g (lw_at lw_m27 190 rfl) rfl
theorem q6823 : (Jvm.Cond.soleField "WasteHouseModel$ShareSolveModel" "shareAbove") ∈ lw_all := lw_g (lw_at lw_m27 191 rfl) rfl
theorem q6824 : (Jvm.Cond.laysFinal "WasteHouseModel$ShareSolveModel" "WasteHouseModel$ShareSolveModel" "shareBelow" "[I") ∈ lw_all := lw_g (lw_at lw_m27 192 rfl) rfl
theorem q6825 : (Jvm.Cond.soleField "WasteHouseModel$ShareSolveModel" "shareBelow") ∈ lw_all := lw_g (lw_at lw_m27 193 rfl) rfl
theorem q6826 : (Jvm.Cond.laysFinal "WasteHouseModel$ShareSolveModel" "WasteHouseModel$ShareSolveModel" "crushTo" "[I") ∈ lw_all := lw_g (lw_at lw_m27 194 rfl) rfl
theorem q6827 : (Jvm.Cond.soleField "WasteHouseModel$ShareSolveModel" "crushTo") ∈ lw_all := lw_g (lw_at lw_m27 195 rfl) rfl
theorem q6828 : (Jvm.Cond.laysFinal "WasteHouseModel$ShareSolveModel" "WasteHouseModel$ShareSolveModel" "crushAbove" "[I") ∈ lw_all := lw_g (lw_at lw_m27 196 rfl) rfl
theorem q6829 : (Jvm.Cond.soleField "WasteHouseModel$ShareSolveModel" "crushAbove") ∈ lw_all := lw_g (lw_at lw_m27 197 rfl) rfl
theorem q6830 : (Jvm.Cond.laysFinal "WasteHouseModel$ShareSolveModel" "WasteHouseModel$ShareSolveModel" "crushBelow" "[I") ∈ lw_all := lw_g (lw_at lw_m27 198 rfl) rfl
theorem q6831 : (Jvm.Cond.soleField "WasteHouseModel$ShareSolveModel" "crushBelow") ∈ lw_all := lw_g (lw_at lw_m27 199 rfl) rfl
theorem q6832 : (Jvm.Cond.laysFinal "WasteHouseModel$ShareSolveModel" "WasteHouseModel$ShareSolveModel" "feeds" "[I") ∈ lw_all := lw_g (lw_at lw_m27 200 rfl) rfl
theorem q6833 : (Jvm.Cond.soleField "WasteHouseModel$ShareSolveModel" "feeds") ∈ lw_all := lw_g (lw_at lw_m27 201 rfl) rfl
theorem q6834 : (Jvm.Cond.laysFinal "WasteHouseModel$ShareSolveModel" "WasteHouseModel$ShareSolveModel" "spanned" "[Z") ∈ lw_all := lw_g (lw_at lw_m27 202 rfl) rfl
theorem q6835 : (Jvm.Cond.soleField "WasteHouseModel$ShareSolveModel" "spanned") ∈ lw_all := lw_g (lw_at lw_m27 203 rfl) rfl
theorem q6836 : (Jvm.Cond.laysFinal "WasteHouseModel$ShareSolveModel" "WasteHouseModel$ShareSolveModel" "lows" "[J") ∈ lw_all := lw_g (lw_at lw_m27 204 rfl) rfl
theorem q6837 : (Jvm.Cond.soleField "WasteHouseModel$ShareSolveModel" "lows") ∈ lw_all := lw_g (lw_at lw_m27 205 rfl) rfl
theorem q6838 : (Jvm.Cond.laysFinal "WasteHouseModel$ShareSolveModel" "WasteHouseModel$ShareSolveModel" "highs" "[J") ∈ lw_all := lw_g (lw_at lw_m27 206 rfl) rfl
theorem q6839 : (Jvm.Cond.soleField "WasteHouseModel$ShareSolveModel" "highs") ∈ lw_all := lw_g (lw_at lw_m27 207 rfl) rfl
theorem q6840 : (Jvm.Cond.lays "WasteHouseModel$ShareSolveModel" "WasteHouseModel$ShareSolveModel" "isKnown" "Z") ∈ lw_all := lw_g (lw_at lw_m27 208 rfl) rfl
theorem q6841 : (Jvm.Cond.soleField "WasteHouseModel$ShareSolveModel" "isKnown") ∈ lw_all := lw_g (lw_at lw_m27 209 rfl) rfl
theorem q6842 : (Jvm.Cond.lays "WasteHouseModel$ShareSolveModel" "WasteHouseModel$ShareSolveModel" "isKept" "Z") ∈ lw_all := lw_g (lw_at lw_m27 210 rfl) rfl
theorem q6843 : (Jvm.Cond.soleField "WasteHouseModel$ShareSolveModel" "isKept") ∈ lw_all := lw_g (lw_at lw_m27 211 rfl) rfl
theorem q6844 : (Jvm.Cond.laysFinal "WasteHouseModel$ShareSolveModel" "WasteHouseModel$ShareSolveModel" "primes" "[J") ∈ lw_all := lw_g (lw_at lw_m27 212 rfl) rfl
theorem q6845 : (Jvm.Cond.soleField "WasteHouseModel$ShareSolveModel" "primes") ∈ lw_all := lw_g (lw_at lw_m27 213 rfl) rfl
theorem q6846 : (Jvm.Cond.laysFinal "WasteHouseModel$ShareSolveModel" "WasteHouseModel$ShareSolveModel" "wholes" "[J") ∈ lw_all := lw_g (lw_at lw_m27 214 rfl) rfl
theorem q6847 : (Jvm.Cond.soleField "WasteHouseModel$ShareSolveModel" "wholes") ∈ lw_all := lw_g (lw_at lw_m27 215 rfl) rfl
theorem q6848 : (Jvm.Cond.laysFinal "WasteHouseModel$ShareSolveModel" "WasteHouseModel$ShareSolveModel" "table" "[J") ∈ lw_all := lw_g (lw_at lw_m27 216 rfl) rfl
theorem q6849 : (Jvm.Cond.soleField "WasteHouseModel$ShareSolveModel" "table") ∈ lw_all := lw_g (lw_at lw_m27 217 rfl) rfl
theorem q6850 : (Jvm.Cond.laysFinal "WasteHouseModel$ShareSolveModel" "WasteHouseModel$ShareSolveModel" "ways" "[J") ∈ lw_all := lw_g (lw_at lw_m27 218 rfl) rfl
theorem q6851 : (Jvm.Cond.soleField "WasteHouseModel$ShareSolveModel" "ways") ∈ lw_all := lw_g (lw_at lw_m27 219 rfl) rfl
theorem q6852 : (Jvm.Cond.laysFinal "WasteHouseModel$ShareSolveModel" "WasteHouseModel$ShareSolveModel" "matrix" "[J") ∈ lw_all := lw_g (lw_at lw_m27 220 rfl) rfl
theorem q6853 : (Jvm.Cond.soleField "WasteHouseModel$ShareSolveModel" "matrix") ∈ lw_all := lw_g (lw_at lw_m27 221 rfl) rfl
theorem q6854 : (Jvm.Cond.laysFinal "WasteHouseModel$ShareSolveModel" "WasteHouseModel$ShareSolveModel" "power" "[J") ∈ lw_all := lw_g (lw_at lw_m27 222 rfl) rfl
theorem q6855 : (Jvm.Cond.soleField "WasteHouseModel$ShareSolveModel" "power") ∈ lw_all := lw_g (lw_at lw_m27 223 rfl) rfl
theorem q6856 : (Jvm.Cond.laysFinal "WasteHouseModel$ShareSolveModel" "WasteHouseModel$ShareSolveModel" "next" "[J") ∈ lw_all := lw_g (lw_at lw_m27 224 rfl) rfl
theorem q6857 : (Jvm.Cond.soleField "WasteHouseModel$ShareSolveModel" "next") ∈ lw_all := lw_g (lw_at lw_m27 225 rfl) rfl
theorem q6858 : (Jvm.Cond.laysFinal "WasteHouseModel$ShareSolveModel" "WasteHouseModel$ShareSolveModel" "turned" "[J") ∈ lw_all := lw_g (lw_at lw_m27 226 rfl) rfl
theorem q6859 : (Jvm.Cond.soleField "WasteHouseModel$ShareSolveModel" "turned") ∈ lw_all := lw_g (lw_at lw_m27 227 rfl) rfl
theorem q6860 : (Jvm.Cond.laysFinal "WasteHouseModel$ShareSolveModel" "WasteHouseModel$ShareSolveModel" "over" "[J") ∈ lw_all := lw_g (lw_at lw_m27 228 rfl) rfl
theorem q6861 : (Jvm.Cond.soleField "WasteHouseModel$ShareSolveModel" "over") ∈ lw_all := lw_g (lw_at lw_m27 229 rfl) rfl
theorem q6862 : (Jvm.Cond.laysFinal "WasteHouseModel$ShareSolveModel" "WasteHouseModel$ShareSolveModel" "big" "[J") ∈ lw_all := lw_g (lw_at lw_m27 230 rfl) rfl
theorem q6863 : (Jvm.Cond.soleField "WasteHouseModel$ShareSolveModel" "big") ∈ lw_all := lw_g (lw_at lw_m27 231 rfl) rfl
theorem q6864 : (Jvm.Cond.laysFinal "WasteHouseModel$ShareSolveModel" "WasteHouseModel$ShareSolveModel" "residues" "[J") ∈ lw_all := lw_g (lw_at lw_m27 232 rfl) rfl
theorem q6865 : (Jvm.Cond.soleField "WasteHouseModel$ShareSolveModel" "residues") ∈ lw_all := lw_g (lw_at lw_m27 233 rfl) rfl
theorem q6866 : (Jvm.Cond.laysFinal "WasteHouseModel$ShareSolveModel" "WasteHouseModel$ShareSolveModel" "digits" "[J") ∈ lw_all := lw_g (lw_at lw_m27 234 rfl) rfl
theorem q6867 : (Jvm.Cond.soleField "WasteHouseModel$ShareSolveModel" "digits") ∈ lw_all := lw_g (lw_at lw_m27 235 rfl) rfl
theorem q6868 : (Jvm.Cond.lays "WasteHouseModel$ShareSolveModel" "WasteHouseModel$ShareSolveModel" "used" "I") ∈ lw_all := lw_g (lw_at lw_m27 236 rfl) rfl
theorem q6869 : (Jvm.Cond.soleField "WasteHouseModel$ShareSolveModel" "used") ∈ lw_all := lw_g (lw_at lw_m27 237 rfl) rfl
theorem q6870 : (Jvm.Cond.lays "WasteHouseModel$ShareSolveModel" "WasteHouseModel$ShareSolveModel" "isBeyond" "Z") ∈ lw_all := lw_g (lw_at lw_m27 238 rfl) rfl
theorem q6871 : (Jvm.Cond.soleField "WasteHouseModel$ShareSolveModel" "isBeyond") ∈ lw_all := lw_g (lw_at lw_m27 239 rfl) rfl
theorem q6872 : (Jvm.Cond.laysFinal "WasteHouseModel$ShareSolveModel" "WasteHouseModel$ShareSolveModel" "weights" "[J") ∈ lw_all := lw_g (lw_at lw_m28 0 rfl) rfl
theorem q6873 : (Jvm.Cond.soleField "WasteHouseModel$ShareSolveModel" "weights") ∈ lw_all := lw_g (lw_at lw_m28 1 rfl) rfl
theorem q6874 : (Jvm.Cond.lays "WasteHouseModel$ShareSolveModel" "WasteHouseModel$ShareSolveModel" "held" "I") ∈ lw_all := lw_g (lw_at lw_m28 2 rfl) rfl
theorem q6875 : (Jvm.Cond.soleField "WasteHouseModel$ShareSolveModel" "held") ∈ lw_all := lw_g (lw_at lw_m28 3 rfl) rfl
theorem q6876 : (Jvm.Cond.lays "WasteHouseModel$ShareSolveModel" "WasteHouseModel$ShareSolveModel" "heldTurn" "I") ∈ lw_all := lw_g (lw_at lw_m28 4 rfl) rfl
theorem q6877 : (Jvm.Cond.soleField "WasteHouseModel$ShareSolveModel" "heldTurn") ∈ lw_all := lw_g (lw_at lw_m28 5 rfl) rfl
theorem q6878 : (Jvm.Cond.laysFinal "WasteHouseModel$ShareSolveModel" "WasteHouseModel$ShareSolveModel" "turns" "[I") ∈ lw_all := lw_g (lw_at lw_m28 6 rfl) rfl
theorem q6879 : (Jvm.Cond.soleField "WasteHouseModel$ShareSolveModel" "turns") ∈ lw_all := lw_g (lw_at lw_m28 7 rfl) rfl
theorem q6880 : (Jvm.Cond.superclass "WasteHouseModel$ShareSolveModel" "java/lang/Object") ∈ lw_all := lw_g (lw_at lw_m28 8 rfl) rfl
theorem q7740 : (Jvm.Cond.instanceMethod ({ cls := "WasteHouseModel$ShareSolveModel", name := "feed", desc := "(IIJ)Z" } : Jvm.MethodName)) ∈ lw_all := lw_g (lw_at lw_m31 148 rfl) rfl
theorem q7741 : (Jvm.Cond.selects "WasteHouseModel$ShareSolveModel" ({ cls := "WasteHouseModel$ShareSolveModel", name := "feed", desc := "(IIJ)Z" } : Jvm.MethodName) ({ cls := "WasteHouseModel$ShareSolveModel", name := "feed", desc := "(IIJ)Z" } : Jvm.MethodName)) ∈ lw_all := lw_g (lw_at lw_m31 149 rfl) rfl
theorem q7742 : (Jvm.Cond.code ({ cls := "WasteHouseModel$ShareSolveModel", name := "feed", desc := "(IIJ)Z" } : Jvm.MethodName) prog_64_method_15_code (5 : Nat) (Option.some Jvm.ClassFile.FieldType.boolean)) ∈ lw_all := lw_g (lw_at lw_m31 150 rfl) rfl
theorem q7743 : (Jvm.Cond.methodLink "WasteHouseModel$ShareSolveModel" (125 : Nat) ({ cls := "WasteHouseModel$ShareSolveModel", name := "isMachine", desc := "(I)Z" } : Jvm.MethodName)) ∈ lw_all := lw_g (lw_at lw_m31 151 rfl) rfl
theorem q7744 : (Jvm.Cond.privateMethod ({ cls := "WasteHouseModel$ShareSolveModel", name := "isMachine", desc := "(I)Z" } : Jvm.MethodName)) ∈ lw_tbl := lw_at lw_m31 152 rfl
theorem q7745 : (Jvm.Cond.instanceMethod ({ cls := "WasteHouseModel$ShareSolveModel", name := "isMachine", desc := "(I)Z" } : Jvm.MethodName)) ∈ lw_all := lw_g (lw_at lw_m31 153 rfl) rfl
theorem q7746 : (Jvm.Cond.code ({ cls := "WasteHouseModel$ShareSolveModel", name := "isMachine", desc := "(I)Z" } : Jvm.MethodName) prog_64_method_4_code (2 : Nat) (Option.some Jvm.ClassFile.FieldType.boolean)) ∈ lw_all := lw_g (lw_at lw_m31 154 rfl) rfl
theorem q7747 : (Jvm.Cond.methodLink "WasteHouseModel$ShareSolveModel" (133 : Nat) ({ cls := "WasteHouseModel$ShareSolveModel", name := "isKind", desc := "(I)Z" } : Jvm.MethodName)) ∈ lw_all := lw_g (lw_at lw_m31 155 rfl) rfl
theorem q7748 : (Jvm.Cond.privateMethod ({ cls := "WasteHouseModel$ShareSolveModel", name := "isKind", desc := "(I)Z" } : Jvm.MethodName)) ∈ lw_tbl := lw_at lw_m31 156 rfl
theorem q7749 : (Jvm.Cond.instanceMethod ({ cls := "WasteHouseModel$ShareSolveModel", name := "isKind", desc := "(I)Z" } : Jvm.MethodName)) ∈ lw_all := lw_g (lw_at lw_m31 157 rfl) rfl
theorem q7750 : (Jvm.Cond.code ({ cls := "WasteHouseModel$ShareSolveModel", name := "isKind", desc := "(I)Z" } : Jvm.MethodName) prog_64_method_5_code (2 : Nat) (Option.some Jvm.ClassFile.FieldType.boolean)) ∈ lw_all := lw_g (lw_at lw_m31 158 rfl) rfl
theorem q7751 : (Jvm.Cond.constantLong "WasteHouseModel$ShareSolveModel" (148 : Nat) (1000000 : Int64)) ∈ lw_all := lw_g (lw_at lw_m31 159 rfl) rfl
theorem q7752 : (Jvm.Cond.methodLink "WasteHouseModel$ShareSolveModel" (122 : Nat) ({ cls := "WasteHouseModel$ShareSolveModel", name := "touch", desc := "()V" } : Jvm.MethodName)) ∈ lw_all := lw_g (lw_at lw_m31 160 rfl) rfl
theorem q7753 : (Jvm.Cond.privateMethod ({ cls := "WasteHouseModel$ShareSolveModel", name := "touch", desc := "()V" } : Jvm.MethodName)) ∈ lw_tbl := lw_at lw_m31 161 rfl
theorem q7754 : (Jvm.Cond.instanceMethod ({ cls := "WasteHouseModel$ShareSolveModel", name := "touch", desc := "()V" } : Jvm.MethodName)) ∈ lw_all := lw_g (lw_at lw_m31 162 rfl) rfl
theorem q7755 : (Jvm.Cond.code ({ cls := "WasteHouseModel$ShareSolveModel", name := "touch", desc := "()V" } : Jvm.MethodName) prog_64_method_6_code (1 : Nat) (Option.none : Option Jvm.ClassFile.FieldType)) ∈ lw_all := lw_g (lw_at lw_m31 163 rfl) rfl
theorem q7763 : (Jvm.Cond.instanceMethod ({ cls := "WasteHouseModel$ShareSolveModel", name := "solve", desc := "()I" } : Jvm.MethodName)) ∈ lw_all := lw_g (lw_at lw_m31 171 rfl) rfl
theorem q7764 : (Jvm.Cond.selects "WasteHouseModel$ShareSolveModel" ({ cls := "WasteHouseModel$ShareSolveModel", name := "solve", desc := "()I" } : Jvm.MethodName) ({ cls := "WasteHouseModel$ShareSolveModel", name := "solve", desc := "()I" } : Jvm.MethodName)) ∈ lw_all := lw_g (lw_at lw_m31 172 rfl) rfl
theorem q7765 : (Jvm.Cond.code ({ cls := "WasteHouseModel$ShareSolveModel", name := "solve", desc := "()I" } : Jvm.MethodName) prog_64_method_51_code (2 : Nat) (Option.some Jvm.ClassFile.FieldType.int)) ∈ lw_all := lw_g (lw_at lw_m31 173 rfl) rfl
theorem q7766 : (Jvm.Cond.methodLink "WasteHouseModel$ShareSolveModel" (242 : Nat) ({ cls := "WasteHouseModel$ShareSolveModel", name := "layOut", desc := "(I)V" } : Jvm.MethodName)) ∈ lw_all := lw_g (lw_at lw_m31 174 rfl) rfl
theorem q7767 : (Jvm.Cond.privateMethod ({ cls := "WasteHouseModel$ShareSolveModel", name := "layOut", desc := "(I)V" } : Jvm.MethodName)) ∈ lw_tbl := lw_at lw_m31 175 rfl
theorem q7768 : (Jvm.Cond.instanceMethod ({ cls := "WasteHouseModel$ShareSolveModel", name := "layOut", desc := "(I)V" } : Jvm.MethodName)) ∈ lw_all := lw_g (lw_at lw_m31 176 rfl) rfl
theorem q7769 : (Jvm.Cond.code ({ cls := "WasteHouseModel$ShareSolveModel", name := "layOut", desc := "(I)V" } : Jvm.MethodName) prog_64_method_21_code (5 : Nat) (Option.none : Option Jvm.ClassFile.FieldType)) ∈ lw_all := lw_g (lw_at lw_m31 177 rfl) rfl
theorem q7770 : (Jvm.Cond.methodLink "WasteHouseModel$ShareSolveModel" (160 : Nat) ({ cls := "WasteHouseModel$ShareSolveModel", name := "layNode", desc := "(III)V" } : Jvm.MethodName)) ∈ lw_all := lw_g (lw_at lw_m31 178 rfl) rfl
theorem q7771 : (Jvm.Cond.privateMethod ({ cls := "WasteHouseModel$ShareSolveModel", name := "layNode", desc := "(III)V" } : Jvm.MethodName)) ∈ lw_tbl := lw_at lw_m31 179 rfl
theorem q7772 : (Jvm.Cond.instanceMethod ({ cls := "WasteHouseModel$ShareSolveModel", name := "layNode", desc := "(III)V" } : Jvm.MethodName)) ∈ lw_all := lw_g (lw_at lw_m31 180 rfl) rfl
theorem q7773 : (Jvm.Cond.code ({ cls := "WasteHouseModel$ShareSolveModel", name := "layNode", desc := "(III)V" } : Jvm.MethodName) prog_64_method_22_code (17 : Nat) (Option.none : Option Jvm.ClassFile.FieldType)) ∈ lw_all := lw_g (lw_at lw_m31 181 rfl) rfl
theorem q7774 : (Jvm.Cond.methodLink "WasteHouseModel$ShareSolveModel" (156 : Nat) ({ cls := "WasteHouseModel$ShareSolveModel", name := "common", desc := "(III)J" } : Jvm.MethodName)) ∈ lw_all := lw_g (lw_at lw_m31 182 rfl) rfl
theorem q7775 : (Jvm.Cond.privateMethod ({ cls := "WasteHouseModel$ShareSolveModel", name := "common", desc := "(III)J" } : Jvm.MethodName)) ∈ lw_tbl := lw_at lw_m31 183 rfl
theorem q7776 : (Jvm.Cond.instanceMethod ({ cls := "WasteHouseModel$ShareSolveModel", name := "common", desc := "(III)J" } : Jvm.MethodName)) ∈ lw_all := lw_g (lw_at lw_m31 184 rfl) rfl
theorem q7777 : (Jvm.Cond.code ({ cls := "WasteHouseModel$ShareSolveModel", name := "common", desc := "(III)J" } : Jvm.MethodName) prog_64_method_19_code (4 : Nat) (Option.some Jvm.ClassFile.FieldType.long)) ∈ lw_all := lw_g (lw_at lw_m31 185 rfl) rfl
theorem q7778 : (Jvm.Cond.methodLink "WasteHouseModel$ShareSolveModel" (152 : Nat) ({ cls := "WasteHouseModel$ShareSolveModel", name := "shareAt", desc := "(IIII)I" } : Jvm.MethodName)) ∈ lw_all := lw_g (lw_at lw_m31 186 rfl) rfl
theorem q7779 : (Jvm.Cond.privateMethod ({ cls := "WasteHouseModel$ShareSolveModel", name := "shareAt", desc := "(IIII)I" } : Jvm.MethodName)) ∈ lw_tbl := lw_at lw_m31 187 rfl
theorem q7780 : (Jvm.Cond.instanceMethod ({ cls := "WasteHouseModel$ShareSolveModel", name := "shareAt", desc := "(IIII)I" } : Jvm.MethodName)) ∈ lw_all := lw_g (lw_at lw_m31 188 rfl) rfl
theorem q7781 : (Jvm.Cond.code ({ cls := "WasteHouseModel$ShareSolveModel", name := "shareAt", desc := "(IIII)I" } : Jvm.MethodName) prog_64_method_18_code (5 : Nat) (Option.some Jvm.ClassFile.FieldType.int)) ∈ lw_all := lw_g (lw_at lw_m31 189 rfl) rfl
theorem q7782 : (Jvm.Cond.methodLink "WasteHouseModel$ShareSolveModel" (164 : Nat) ({ cls := "WasteHouseModel$ShareSolveModel", name := "part", desc := "(IIII)J" } : Jvm.MethodName)) ∈ lw_all := lw_g (lw_at lw_m31 190 rfl) rfl
theorem q7783 : (Jvm.Cond.privateMethod ({ cls := "WasteHouseModel$ShareSolveModel", name := "part", desc := "(IIII)J" } : Jvm.MethodName)) ∈ lw_tbl := lw_at lw_m31 191 rfl
theorem q7784 : (Jvm.Cond.instanceMethod ({ cls := "WasteHouseModel$ShareSolveModel", name := "part", desc := "(IIII)J" } : Jvm.MethodName)) ∈ lw_all := lw_g (lw_at lw_m31 192 rfl) rfl
theorem q7785 : (Jvm.Cond.code ({ cls := "WasteHouseModel$ShareSolveModel", name := "part", desc := "(IIII)J" } : Jvm.MethodName) prog_64_method_20_code (12 : Nat) (Option.some Jvm.ClassFile.FieldType.long)) ∈ lw_all := lw_g (lw_at lw_m31 193 rfl) rfl
theorem q7786 : (Jvm.Cond.methodLink "WasteHouseModel$ShareSolveModel" (257 : Nat) ({ cls := "WasteHouseModel$ShareSolveModel", name := "stuck", desc := "(I)I" } : Jvm.MethodName)) ∈ lw_all := lw_g (lw_at lw_m31 194 rfl) rfl
theorem q7787 : (Jvm.Cond.privateMethod ({ cls := "WasteHouseModel$ShareSolveModel", name := "stuck", desc := "(I)I" } : Jvm.MethodName)) ∈ lw_tbl := lw_at lw_m31 195 rfl
theorem q7788 : (Jvm.Cond.instanceMethod ({ cls := "WasteHouseModel$ShareSolveModel", name := "stuck", desc := "(I)I" } : Jvm.MethodName)) ∈ lw_all := lw_g (lw_at lw_m31 196 rfl) rfl
theorem q7789 : (Jvm.Cond.code ({ cls := "WasteHouseModel$ShareSolveModel", name := "stuck", desc := "(I)I" } : Jvm.MethodName) prog_64_method_23_code (6 : Nat) (Option.some Jvm.ClassFile.FieldType.int)) ∈ lw_all := lw_g (lw_at lw_m31 197 rfl) rfl
theorem q7790 : (Jvm.Cond.methodLink "WasteHouseModel$ShareSolveModel" (168 : Nat) ({ cls := "WasteHouseModel$ShareSolveModel", name := "goes", desc := "(IIII)Z" } : Jvm.MethodName)) ∈ lw_all := lw_g (lw_at lw_m31 198 rfl) rfl
theorem q7791 : (Jvm.Cond.privateMethod ({ cls := "WasteHouseModel$ShareSolveModel", name := "goes", desc := "(IIII)Z" } : Jvm.MethodName)) ∈ lw_tbl := lw_at lw_m31 199 rfl
theorem q7792 : (Jvm.Cond.instanceMethod ({ cls := "WasteHouseModel$ShareSolveModel", name := "goes", desc := "(IIII)Z" } : Jvm.MethodName)) ∈ lw_all := lw_g (lw_at lw_m31 200 rfl) rfl
theorem q7793 : (Jvm.Cond.code ({ cls := "WasteHouseModel$ShareSolveModel", name := "goes", desc := "(IIII)Z" } : Jvm.MethodName) prog_64_method_24_code (11 : Nat) (Option.some Jvm.ClassFile.FieldType.boolean)) ∈ lw_all := lw_g (lw_at lw_m31 201 rfl) rfl
theorem q7794 : (Jvm.Cond.methodLink "WasteHouseModel$ShareSolveModel" (263 : Nat) ({ cls := "WasteHouseModel$ShareSolveModel", name := "freeze", desc := "()V" } : Jvm.MethodName)) ∈ lw_all := lw_g (lw_at lw_m31 202 rfl) rfl
theorem q7795 : (Jvm.Cond.privateMethod ({ cls := "WasteHouseModel$ShareSolveModel", name := "freeze", desc := "()V" } : Jvm.MethodName)) ∈ lw_tbl := lw_at lw_m31 203 rfl
theorem q7796 : (Jvm.Cond.instanceMethod ({ cls := "WasteHouseModel$ShareSolveModel", name := "freeze", desc := "()V" } : Jvm.MethodName)) ∈ lw_all := lw_g (lw_at lw_m31 204 rfl) rfl
theorem q7797 : (Jvm.Cond.code ({ cls := "WasteHouseModel$ShareSolveModel", name := "freeze", desc := "()V" } : Jvm.MethodName) prog_64_method_17_code (2 : Nat) (Option.none : Option Jvm.ClassFile.FieldType)) ∈ lw_all := lw_g (lw_at lw_m31 205 rfl) rfl
theorem q7799 : (Jvm.Cond.instanceMethod ({ cls := "WasteHouseModel$ShareSolveModel", name := "out", desc := "(III)J" } : Jvm.MethodName)) ∈ lw_all := lw_g (lw_at lw_m31 207 rfl) rfl
theorem q7800 : (Jvm.Cond.selects "WasteHouseModel$ShareSolveModel" ({ cls := "WasteHouseModel$ShareSolveModel", name := "out", desc := "(III)J" } : Jvm.MethodName) ({ cls := "WasteHouseModel$ShareSolveModel", name := "out", desc := "(III)J" } : Jvm.MethodName)) ∈ lw_all := lw_g (lw_at lw_m31 208 rfl) rfl
theorem q7801 : (Jvm.Cond.code ({ cls := "WasteHouseModel$ShareSolveModel", name := "out", desc := "(III)J" } : Jvm.MethodName) prog_64_method_52_code (4 : Nat) (Option.some Jvm.ClassFile.FieldType.long)) ∈ lw_all := lw_g (lw_at lw_m31 209 rfl) rfl
theorem q7802 : (Jvm.Cond.constantLong "WasteHouseModel$ShareSolveModel" (223 : Nat) (-1 : Int64)) ∈ lw_all := lw_g (lw_at lw_m31 210 rfl) rfl
theorem q7803 : (Jvm.Cond.methodLink "WasteHouseModel$ShareSolveModel" (266 : Nat) ({ cls := "WasteHouseModel$ShareSolveModel", name := "prepare", desc := "(I)V" } : Jvm.MethodName)) ∈ lw_all := lw_g (lw_at lw_m31 211 rfl) rfl
theorem q7804 : (Jvm.Cond.privateMethod ({ cls := "WasteHouseModel$ShareSolveModel", name := "prepare", desc := "(I)V" } : Jvm.MethodName)) ∈ lw_tbl := lw_at lw_m31 212 rfl
theorem q7805 : (Jvm.Cond.instanceMethod ({ cls := "WasteHouseModel$ShareSolveModel", name := "prepare", desc := "(I)V" } : Jvm.MethodName)) ∈ lw_all := lw_g (lw_at lw_m31 213 rfl) rfl
theorem q7806 : (Jvm.Cond.code ({ cls := "WasteHouseModel$ShareSolveModel", name := "prepare", desc := "(I)V" } : Jvm.MethodName) prog_64_method_50_code (2 : Nat) (Option.none : Option Jvm.ClassFile.FieldType)) ∈ lw_all := lw_g (lw_at lw_m31 214 rfl) rfl
theorem q7807 : (Jvm.Cond.methodLink "WasteHouseModel$ShareSolveModel" (248 : Nat) ({ cls := "WasteHouseModel$ShareSolveModel", name := "turn", desc := "()V" } : Jvm.MethodName)) ∈ lw_all := lw_g (lw_at lw_m31 215 rfl) rfl
theorem q7808 : (Jvm.Cond.privateMethod ({ cls := "WasteHouseModel$ShareSolveModel", name := "turn", desc := "()V" } : Jvm.MethodName)) ∈ lw_tbl := lw_at lw_m31 216 rfl
theorem q7809 : (Jvm.Cond.instanceMethod ({ cls := "WasteHouseModel$ShareSolveModel", name := "turn", desc := "()V" } : Jvm.MethodName)) ∈ lw_all := lw_g (lw_at lw_m31 217 rfl) rfl
theorem q7810 : (Jvm.Cond.code ({ cls := "WasteHouseModel$ShareSolveModel", name := "turn", desc := "()V" } : Jvm.MethodName) prog_64_method_27_code (2 : Nat) (Option.none : Option Jvm.ClassFile.FieldType)) ∈ lw_all := lw_g (lw_at lw_m31 218 rfl) rfl
theorem q7811 : (Jvm.Cond.methodLink "WasteHouseModel$ShareSolveModel" (178 : Nat) ({ cls := "WasteHouseModel$ShareSolveModel", name := "turnBy", desc := "(IJ)V" } : Jvm.MethodName)) ∈ lw_all := lw_g (lw_at lw_m31 219 rfl) rfl
theorem q7812 : (Jvm.Cond.privateMethod ({ cls := "WasteHouseModel$ShareSolveModel", name := "turnBy", desc := "(IJ)V" } : Jvm.MethodName)) ∈ lw_tbl := lw_at lw_m31 220 rfl
theorem q7813 : (Jvm.Cond.instanceMethod ({ cls := "WasteHouseModel$ShareSolveModel", name := "turnBy", desc := "(IJ)V" } : Jvm.MethodName)) ∈ lw_all := lw_g (lw_at lw_m31 221 rfl) rfl
theorem q7814 : (Jvm.Cond.code ({ cls := "WasteHouseModel$ShareSolveModel", name := "turnBy", desc := "(IJ)V" } : Jvm.MethodName) prog_64_method_28_code (10 : Nat) (Option.none : Option Jvm.ClassFile.FieldType)) ∈ lw_all := lw_g (lw_at lw_m31 222 rfl) rfl
theorem q7815 : (Jvm.Cond.methodLink "WasteHouseModel$ShareSolveModel" (182 : Nat) ({ cls := "WasteHouseModel$ShareSolveModel", name := "multiply", desc := "(J)V" } : Jvm.MethodName)) ∈ lw_all := lw_g (lw_at lw_m31 223 rfl) rfl
theorem q7816 : (Jvm.Cond.privateMethod ({ cls := "WasteHouseModel$ShareSolveModel", name := "multiply", desc := "(J)V" } : Jvm.MethodName)) ∈ lw_tbl := lw_at lw_m31 224 rfl
theorem q7817 : (Jvm.Cond.instanceMethod ({ cls := "WasteHouseModel$ShareSolveModel", name := "multiply", desc := "(J)V" } : Jvm.MethodName)) ∈ lw_all := lw_g (lw_at lw_m31 225 rfl) rfl
theorem q7818 : (Jvm.Cond.code ({ cls := "WasteHouseModel$ShareSolveModel", name := "multiply", desc := "(J)V" } : Jvm.MethodName) prog_64_method_29_code (8 : Nat) (Option.none : Option Jvm.ClassFile.FieldType)) ∈ lw_all := lw_g (lw_at lw_m31 226 rfl) rfl
theorem q7819 : (Jvm.Cond.methodLink "WasteHouseModel$ShareSolveModel" (186 : Nat) ({ cls := "WasteHouseModel$ShareSolveModel", name := "inverse", desc := "(JJ)J" } : Jvm.MethodName)) ∈ lw_all := lw_g (lw_at lw_m31 227 rfl) rfl
theorem q7820 : (Jvm.Cond.static ({ cls := "WasteHouseModel$ShareSolveModel", name := "inverse", desc := "(JJ)J" } : Jvm.MethodName)) ∈ lw_all := lw_g (lw_at lw_m31 228 rfl) rfl
theorem q7821 : (Jvm.Cond.code ({ cls := "WasteHouseModel$ShareSolveModel", name := "inverse", desc := "(JJ)J" } : Jvm.MethodName) prog_64_method_26_code (4 : Nat) (Option.some Jvm.ClassFile.FieldType.long)) ∈ lw_all := lw_g (lw_at lw_m31 229 rfl) rfl
theorem q7822 : (Jvm.Cond.constantLong "WasteHouseModel$ShareSolveModel" (172 : Nat) (2 : Int64)) ∈ lw_all := lw_g (lw_at lw_m31 230 rfl) rfl
theorem q7823 : (Jvm.Cond.methodLink "WasteHouseModel$ShareSolveModel" (174 : Nat) ({ cls := "WasteHouseModel$ShareSolveModel", name := "raise", desc := "(JJJ)J" } : Jvm.MethodName)) ∈ lw_all := lw_g (lw_at lw_m31 231 rfl) rfl
theorem q7824 : (Jvm.Cond.static ({ cls := "WasteHouseModel$ShareSolveModel", name := "raise", desc := "(JJJ)J" } : Jvm.MethodName)) ∈ lw_all := lw_g (lw_at lw_m31 232 rfl) rfl
theorem q7825 : (Jvm.Cond.code ({ cls := "WasteHouseModel$ShareSolveModel", name := "raise", desc := "(JJJ)J" } : Jvm.MethodName) prog_64_method_25_code (12 : Nat) (Option.some Jvm.ClassFile.FieldType.long)) ∈ lw_all := lw_g (lw_at lw_m31 233 rfl) rfl
theorem q7826 : (Jvm.Cond.methodLink "WasteHouseModel$ShareSolveModel" (251 : Nat) ({ cls := "WasteHouseModel$ShareSolveModel", name := "gatherOver", desc := "(I)V" } : Jvm.MethodName)) ∈ lw_all := lw_g (lw_at lw_m31 234 rfl) rfl
theorem q7827 : (Jvm.Cond.privateMethod ({ cls := "WasteHouseModel$ShareSolveModel", name := "gatherOver", desc := "(I)V" } : Jvm.MethodName)) ∈ lw_tbl := lw_at lw_m31 235 rfl
theorem q7828 : (Jvm.Cond.instanceMethod ({ cls := "WasteHouseModel$ShareSolveModel", name := "gatherOver", desc := "(I)V" } : Jvm.MethodName)) ∈ lw_all := lw_g (lw_at lw_m31 236 rfl) rfl
theorem q7829 : (Jvm.Cond.code ({ cls := "WasteHouseModel$ShareSolveModel", name := "gatherOver", desc := "(I)V" } : Jvm.MethodName) prog_64_method_46_code (3 : Nat) (Option.none : Option Jvm.ClassFile.FieldType)) ∈ lw_all := lw_g (lw_at lw_m31 237 rfl) rfl
theorem q7830 : (Jvm.Cond.methodLink "WasteHouseModel$ShareSolveModel" (239 : Nat) ({ cls := "WasteHouseModel$ShareSolveModel", name := "gather", desc := "(I)V" } : Jvm.MethodName)) ∈ lw_all := lw_g (lw_at lw_m31 238 rfl) rfl
theorem q7831 : (Jvm.Cond.privateMethod ({ cls := "WasteHouseModel$ShareSolveModel", name := "gather", desc := "(I)V" } : Jvm.MethodName)) ∈ lw_tbl := lw_at lw_m31 239 rfl
theorem q7832 : (Jvm.Cond.instanceMethod ({ cls := "WasteHouseModel$ShareSolveModel", name := "gather", desc := "(I)V" } : Jvm.MethodName)) ∈ lw_all := lw_g (lw_at lw_m32 0 rfl) rfl
theorem q7833 : (Jvm.Cond.code ({ cls := "WasteHouseModel$ShareSolveModel", name := "gather", desc := "(I)V" } : Jvm.MethodName) prog_64_method_37_code (8 : Nat) (Option.none : Option Jvm.ClassFile.FieldType)) ∈ lw_all := lw_g (lw_at lw_m32 1 rfl) rfl
theorem q7834 : (Jvm.Cond.methodLink "WasteHouseModel$ShareSolveModel" (192 : Nat) ({ cls := "WasteHouseModel$ShareSolveModel", name := "clear", desc := "(I)V" } : Jvm.MethodName)) ∈ lw_all := lw_g (lw_at lw_m32 2 rfl) rfl
theorem q7835 : (Jvm.Cond.privateMethod ({ cls := "WasteHouseModel$ShareSolveModel", name := "clear", desc := "(I)V" } : Jvm.MethodName)) ∈ lw_tbl := lw_at lw_m32 3 rfl
theorem q7836 : (Jvm.Cond.instanceMethod ({ cls := "WasteHouseModel$ShareSolveModel", name := "clear", desc := "(I)V" } : Jvm.MethodName)) ∈ lw_all := lw_g (lw_at lw_m32 4 rfl) rfl
theorem q7837 : (Jvm.Cond.code ({ cls := "WasteHouseModel$ShareSolveModel", name := "clear", desc := "(I)V" } : Jvm.MethodName) prog_64_method_30_code (3 : Nat) (Option.none : Option Jvm.ClassFile.FieldType)) ∈ lw_all := lw_g (lw_at lw_m32 5 rfl) rfl
theorem q7838 : (Jvm.Cond.methodLink "WasteHouseModel$ShareSolveModel" (196 : Nat) ({ cls := "WasteHouseModel$ShareSolveModel", name := "grow", desc := "(IJJ)V" } : Jvm.MethodName)) ∈ lw_all := lw_g (lw_at lw_m32 6 rfl) rfl
theorem q7839 : (Jvm.Cond.privateMethod ({ cls := "WasteHouseModel$ShareSolveModel", name := "grow", desc := "(IJJ)V" } : Jvm.MethodName)) ∈ lw_tbl := lw_at lw_m32 7 rfl
theorem q7840 : (Jvm.Cond.instanceMethod ({ cls := "WasteHouseModel$ShareSolveModel", name := "grow", desc := "(IJJ)V" } : Jvm.MethodName)) ∈ lw_all := lw_g (lw_at lw_m32 8 rfl) rfl
theorem q7841 : (Jvm.Cond.code ({ cls := "WasteHouseModel$ShareSolveModel", name := "grow", desc := "(IJJ)V" } : Jvm.MethodName) prog_64_method_32_code (11 : Nat) (Option.none : Option Jvm.ClassFile.FieldType)) ∈ lw_all := lw_g (lw_at lw_m32 9 rfl) rfl
theorem q7842 : (Jvm.Cond.constantLong "WasteHouseModel$ShareSolveModel" (190 : Nat) (268435455 : Int64)) ∈ lw_all := lw_g (lw_at lw_m32 10 rfl) rfl
theorem q7843 : (Jvm.Cond.methodLink "WasteHouseModel$ShareSolveModel" (200 : Nat) ({ cls := "WasteHouseModel$ShareSolveModel", name := "add", desc := "(IJ)V" } : Jvm.MethodName)) ∈ lw_all := lw_g (lw_at lw_m32 11 rfl) rfl
theorem q7844 : (Jvm.Cond.privateMethod ({ cls := "WasteHouseModel$ShareSolveModel", name := "add", desc := "(IJ)V" } : Jvm.MethodName)) ∈ lw_tbl := lw_at lw_m32 12 rfl
theorem q7845 : (Jvm.Cond.instanceMethod ({ cls := "WasteHouseModel$ShareSolveModel", name := "add", desc := "(IJ)V" } : Jvm.MethodName)) ∈ lw_all := lw_g (lw_at lw_m32 13 rfl) rfl
theorem q7846 : (Jvm.Cond.code ({ cls := "WasteHouseModel$ShareSolveModel", name := "add", desc := "(IJ)V" } : Jvm.MethodName) prog_64_method_38_code (9 : Nat) (Option.none : Option Jvm.ClassFile.FieldType)) ∈ lw_all := lw_g (lw_at lw_m32 14 rfl) rfl
theorem q7847 : (Jvm.Cond.methodLink "WasteHouseModel$ShareSolveModel" (254 : Nat) ({ cls := "WasteHouseModel$ShareSolveModel", name := "clearWeights", desc := "()V" } : Jvm.MethodName)) ∈ lw_all := lw_g (lw_at lw_m32 15 rfl) rfl
theorem q7848 : (Jvm.Cond.privateMethod ({ cls := "WasteHouseModel$ShareSolveModel", name := "clearWeights", desc := "()V" } : Jvm.MethodName)) ∈ lw_tbl := lw_at lw_m32 16 rfl
theorem q7849 : (Jvm.Cond.instanceMethod ({ cls := "WasteHouseModel$ShareSolveModel", name := "clearWeights", desc := "()V" } : Jvm.MethodName)) ∈ lw_all := lw_g (lw_at lw_m32 17 rfl) rfl
theorem q7850 : (Jvm.Cond.code ({ cls := "WasteHouseModel$ShareSolveModel", name := "clearWeights", desc := "()V" } : Jvm.MethodName) prog_64_method_45_code (2 : Nat) (Option.none : Option Jvm.ClassFile.FieldType)) ∈ lw_all := lw_g (lw_at lw_m32 18 rfl) rfl
theorem q7851 : (Jvm.Cond.methodLink "WasteHouseModel$ShareSolveModel" (269 : Nat) ({ cls := "WasteHouseModel$ShareSolveModel", name := "weighPort", desc := "(III)V" } : Jvm.MethodName)) ∈ lw_all := lw_g (lw_at lw_m32 19 rfl) rfl
theorem q7852 : (Jvm.Cond.privateMethod ({ cls := "WasteHouseModel$ShareSolveModel", name := "weighPort", desc := "(III)V" } : Jvm.MethodName)) ∈ lw_tbl := lw_at lw_m32 20 rfl
theorem q7853 : (Jvm.Cond.instanceMethod ({ cls := "WasteHouseModel$ShareSolveModel", name := "weighPort", desc := "(III)V" } : Jvm.MethodName)) ∈ lw_all := lw_g (lw_at lw_m32 21 rfl) rfl
theorem q7854 : (Jvm.Cond.code ({ cls := "WasteHouseModel$ShareSolveModel", name := "weighPort", desc := "(III)V" } : Jvm.MethodName) prog_64_method_49_code (9 : Nat) (Option.none : Option Jvm.ClassFile.FieldType)) ∈ lw_all := lw_g (lw_at lw_m32 22 rfl) rfl
theorem q7855 : (Jvm.Cond.methodLink "WasteHouseModel$ShareSolveModel" (272 : Nat) ({ cls := "WasteHouseModel$ShareSolveModel", name := "gatherAmount", desc := "(II)V" } : Jvm.MethodName)) ∈ lw_all := lw_g (lw_at lw_m32 23 rfl) rfl
theorem q7856 : (Jvm.Cond.privateMethod ({ cls := "WasteHouseModel$ShareSolveModel", name := "gatherAmount", desc := "(II)V" } : Jvm.MethodName)) ∈ lw_tbl := lw_at lw_m32 24 rfl
theorem q7857 : (Jvm.Cond.instanceMethod ({ cls := "WasteHouseModel$ShareSolveModel", name := "gatherAmount", desc := "(II)V" } : Jvm.MethodName)) ∈ lw_all := lw_g (lw_at lw_m32 25 rfl) rfl
theorem q7858 : (Jvm.Cond.code ({ cls := "WasteHouseModel$ShareSolveModel", name := "gatherAmount", desc := "(II)V" } : Jvm.MethodName) prog_64_method_47_code (12 : Nat) (Option.none : Option Jvm.ClassFile.FieldType)) ∈ lw_all := lw_g (lw_at lw_m32 26 rfl) rfl
theorem q7859 : (Jvm.Cond.methodLink "WasteHouseModel$ShareSolveModel" (275 : Nat) ({ cls := "WasteHouseModel$ShareSolveModel", name := "partOf", desc := "(IZ)J" } : Jvm.MethodName)) ∈ lw_all := lw_g (lw_at lw_m32 27 rfl) rfl
theorem q7860 : (Jvm.Cond.privateMethod ({ cls := "WasteHouseModel$ShareSolveModel", name := "partOf", desc := "(IZ)J" } : Jvm.MethodName)) ∈ lw_tbl := lw_at lw_m32 28 rfl
theorem q7861 : (Jvm.Cond.instanceMethod ({ cls := "WasteHouseModel$ShareSolveModel", name := "partOf", desc := "(IZ)J" } : Jvm.MethodName)) ∈ lw_all := lw_g (lw_at lw_m32 29 rfl) rfl
theorem q7862 : (Jvm.Cond.code ({ cls := "WasteHouseModel$ShareSolveModel", name := "partOf", desc := "(IZ)J" } : Jvm.MethodName) prog_64_method_44_code (6 : Nat) (Option.some Jvm.ClassFile.FieldType.long)) ∈ lw_all := lw_g (lw_at lw_m32 30 rfl) rfl
theorem q7863 : (Jvm.Cond.methodLink "WasteHouseModel$ShareSolveModel" (225 : Nat) ({ cls := "WasteHouseModel$ShareSolveModel", name := "divide", desc := "(I)J" } : Jvm.MethodName)) ∈ lw_all := lw_g (lw_at lw_m32 31 rfl) rfl
theorem q7864 : (Jvm.Cond.privateMethod ({ cls := "WasteHouseModel$ShareSolveModel", name := "divide", desc := "(I)J" } : Jvm.MethodName)) ∈ lw_tbl := lw_at lw_m32 32 rfl
theorem q7865 : (Jvm.Cond.instanceMethod ({ cls := "WasteHouseModel$ShareSolveModel", name := "divide", desc := "(I)J" } : Jvm.MethodName)) ∈ lw_all := lw_g (lw_at lw_m32 33 rfl) rfl
theorem q7866 : (Jvm.Cond.code ({ cls := "WasteHouseModel$ShareSolveModel", name := "divide", desc := "(I)J" } : Jvm.MethodName) prog_64_method_43_code (5 : Nat) (Option.some Jvm.ClassFile.FieldType.long)) ∈ lw_all := lw_g (lw_at lw_m32 34 rfl) rfl
theorem q7867 : (Jvm.Cond.methodLink "WasteHouseModel$ShareSolveModel" (209 : Nat) ({ cls := "WasteHouseModel$ShareSolveModel", name := "wordsOf", desc := "(I)I" } : Jvm.MethodName)) ∈ lw_all := lw_g (lw_at lw_m32 35 rfl) rfl
theorem q7868 : (Jvm.Cond.privateMethod ({ cls := "WasteHouseModel$ShareSolveModel", name := "wordsOf", desc := "(I)I" } : Jvm.MethodName)) ∈ lw_tbl := lw_at lw_m32 36 rfl
theorem q7869 : (Jvm.Cond.instanceMethod ({ cls := "WasteHouseModel$ShareSolveModel", name := "wordsOf", desc := "(I)I" } : Jvm.MethodName)) ∈ lw_all := lw_g (lw_at lw_m32 37 rfl) rfl
theorem q7870 : (Jvm.Cond.code ({ cls := "WasteHouseModel$ShareSolveModel", name := "wordsOf", desc := "(I)I" } : Jvm.MethodName) prog_64_method_42_code (3 : Nat) (Option.some Jvm.ClassFile.FieldType.int)) ∈ lw_all := lw_g (lw_at lw_m32 38 rfl) rfl
theorem q7871 : (Jvm.Cond.methodLink "WasteHouseModel$ShareSolveModel" (213 : Nat) ({ cls := "WasteHouseModel$ShareSolveModel", name := "growUsed", desc := "(J)V" } : Jvm.MethodName)) ∈ lw_all := lw_g (lw_at lw_m32 39 rfl) rfl
theorem q7872 : (Jvm.Cond.privateMethod ({ cls := "WasteHouseModel$ShareSolveModel", name := "growUsed", desc := "(J)V" } : Jvm.MethodName)) ∈ lw_tbl := lw_at lw_m32 40 rfl
theorem q7873 : (Jvm.Cond.instanceMethod ({ cls := "WasteHouseModel$ShareSolveModel", name := "growUsed", desc := "(J)V" } : Jvm.MethodName)) ∈ lw_all := lw_g (lw_at lw_m32 41 rfl) rfl
theorem q7874 : (Jvm.Cond.code ({ cls := "WasteHouseModel$ShareSolveModel", name := "growUsed", desc := "(J)V" } : Jvm.MethodName) prog_64_method_39_code (8 : Nat) (Option.none : Option Jvm.ClassFile.FieldType)) ∈ lw_all := lw_g (lw_at lw_m32 42 rfl) rfl
theorem q7875 : (Jvm.Cond.methodLink "WasteHouseModel$ShareSolveModel" (216 : Nat) ({ cls := "WasteHouseModel$ShareSolveModel", name := "isLeftLess", desc := "()Z" } : Jvm.MethodName)) ∈ lw_all := lw_g (lw_at lw_m32 43 rfl) rfl
theorem q7876 : (Jvm.Cond.privateMethod ({ cls := "WasteHouseModel$ShareSolveModel", name := "isLeftLess", desc := "()Z" } : Jvm.MethodName)) ∈ lw_tbl := lw_at lw_m32 44 rfl
theorem q7877 : (Jvm.Cond.instanceMethod ({ cls := "WasteHouseModel$ShareSolveModel", name := "isLeftLess", desc := "()Z" } : Jvm.MethodName)) ∈ lw_all := lw_g (lw_at lw_m32 45 rfl) rfl
theorem q7878 : (Jvm.Cond.code ({ cls := "WasteHouseModel$ShareSolveModel", name := "isLeftLess", desc := "()Z" } : Jvm.MethodName) prog_64_method_40_code (2 : Nat) (Option.some Jvm.ClassFile.FieldType.boolean)) ∈ lw_all := lw_g (lw_at lw_m32 46 rfl) rfl
theorem q7879 : (Jvm.Cond.methodLink "WasteHouseModel$ShareSolveModel" (220 : Nat) ({ cls := "WasteHouseModel$ShareSolveModel", name := "lessenLeft", desc := "()V" } : Jvm.MethodName)) ∈ lw_all := lw_g (lw_at lw_m32 47 rfl) rfl
theorem q7880 : (Jvm.Cond.privateMethod ({ cls := "WasteHouseModel$ShareSolveModel", name := "lessenLeft", desc := "()V" } : Jvm.MethodName)) ∈ lw_tbl := lw_at lw_m32 48 rfl
theorem q7881 : (Jvm.Cond.instanceMethod ({ cls := "WasteHouseModel$ShareSolveModel", name := "lessenLeft", desc := "()V" } : Jvm.MethodName)) ∈ lw_all := lw_g (lw_at lw_m32 49 rfl) rfl
theorem q7882 : (Jvm.Cond.code ({ cls := "WasteHouseModel$ShareSolveModel", name := "lessenLeft", desc := "()V" } : Jvm.MethodName) prog_64_method_41_code (6 : Nat) (Option.none : Option Jvm.ClassFile.FieldType)) ∈ lw_all := lw_g (lw_at lw_m32 50 rfl) rfl
theorem q7883 : (Jvm.Cond.methodLink "WasteHouseModel$ShareSolveModel" (229 : Nat) ({ cls := "WasteHouseModel$ShareSolveModel", name := "isZero", desc := "(I)Z" } : Jvm.MethodName)) ∈ lw_all := lw_g (lw_at lw_m32 51 rfl) rfl
theorem q7884 : (Jvm.Cond.privateMethod ({ cls := "WasteHouseModel$ShareSolveModel", name := "isZero", desc := "(I)Z" } : Jvm.MethodName)) ∈ lw_tbl := lw_at lw_m32 52 rfl
theorem q7885 : (Jvm.Cond.instanceMethod ({ cls := "WasteHouseModel$ShareSolveModel", name := "isZero", desc := "(I)Z" } : Jvm.MethodName)) ∈ lw_all := lw_g (lw_at lw_m32 53 rfl) rfl
theorem q7886 : (Jvm.Cond.code ({ cls := "WasteHouseModel$ShareSolveModel", name := "isZero", desc := "(I)Z" } : Jvm.MethodName) prog_64_method_34_code (4 : Nat) (Option.some Jvm.ClassFile.FieldType.boolean)) ∈ lw_all := lw_g (lw_at lw_m32 54 rfl) rfl
theorem q7887 : (Jvm.Cond.methodLink "WasteHouseModel$ShareSolveModel" (232 : Nat) ({ cls := "WasteHouseModel$ShareSolveModel", name := "copy", desc := "(II)V" } : Jvm.MethodName)) ∈ lw_all := lw_g (lw_at lw_m32 55 rfl) rfl
theorem q7888 : (Jvm.Cond.privateMethod ({ cls := "WasteHouseModel$ShareSolveModel", name := "copy", desc := "(II)V" } : Jvm.MethodName)) ∈ lw_tbl := lw_at lw_m32 56 rfl
theorem q7889 : (Jvm.Cond.instanceMethod ({ cls := "WasteHouseModel$ShareSolveModel", name := "copy", desc := "(II)V" } : Jvm.MethodName)) ∈ lw_all := lw_g (lw_at lw_m32 57 rfl) rfl
theorem q7890 : (Jvm.Cond.code ({ cls := "WasteHouseModel$ShareSolveModel", name := "copy", desc := "(II)V" } : Jvm.MethodName) prog_64_method_31_code (4 : Nat) (Option.none : Option Jvm.ClassFile.FieldType)) ∈ lw_all := lw_g (lw_at lw_m32 58 rfl) rfl
theorem q7891 : (Jvm.Cond.methodLink "WasteHouseModel$ShareSolveModel" (236 : Nat) ({ cls := "WasteHouseModel$ShareSolveModel", name := "lessen", desc := "(II)V" } : Jvm.MethodName)) ∈ lw_all := lw_g (lw_at lw_m32 59 rfl) rfl
theorem q7892 : (Jvm.Cond.privateMethod ({ cls := "WasteHouseModel$ShareSolveModel", name := "lessen", desc := "(II)V" } : Jvm.MethodName)) ∈ lw_tbl := lw_at lw_m32 60 rfl
theorem q7893 : (Jvm.Cond.instanceMethod ({ cls := "WasteHouseModel$ShareSolveModel", name := "lessen", desc := "(II)V" } : Jvm.MethodName)) ∈ lw_all := lw_g (lw_at lw_m32 61 rfl) rfl
theorem q7894 : (Jvm.Cond.code ({ cls := "WasteHouseModel$ShareSolveModel", name := "lessen", desc := "(II)V" } : Jvm.MethodName) prog_64_method_35_code (8 : Nat) (Option.none : Option Jvm.ClassFile.FieldType)) ∈ lw_all := lw_g (lw_at lw_m32 62 rfl) rfl
theorem q7895 : (Jvm.Cond.constantLong "WasteHouseModel$ShareSolveModel" (150 : Nat) (1000000000 : Int64)) ∈ lw_all := lw_g (lw_at lw_m32 63 rfl) rfl
theorem q8396 : (Jvm.Cond.instanceMethod ({ cls := "WasteHouseModel$ShareSolveModel", name := "machine", desc := "(I)I" } : Jvm.MethodName)) ∈ lw_all := lw_g (lw_at lw_m34 84 rfl) rfl
theorem q8397 : (Jvm.Cond.selects "WasteHouseModel$ShareSolveModel" ({ cls := "WasteHouseModel$ShareSolveModel", name := "machine", desc := "(I)I" } : Jvm.MethodName) ({ cls := "WasteHouseModel$ShareSolveModel", name := "machine", desc := "(I)I" } : Jvm.MethodName)) ∈ lw_all := lw_g (lw_at lw_m34 85 rfl) rfl
theorem q8398 : (Jvm.Cond.code ({ cls := "WasteHouseModel$ShareSolveModel", name := "machine", desc := "(I)I" } : Jvm.MethodName) prog_64_method_7_code (2 : Nat) (Option.some Jvm.ClassFile.FieldType.int)) ∈ lw_all := lw_g (lw_at lw_m34 86 rfl) rfl
theorem q8401 : (Jvm.Cond.instanceMethod ({ cls := "WasteHouseModel$ShareSolveModel", name := "port", desc := "()I" } : Jvm.MethodName)) ∈ lw_all := lw_g (lw_at lw_m34 89 rfl) rfl
theorem q8402 : (Jvm.Cond.selects "WasteHouseModel$ShareSolveModel" ({ cls := "WasteHouseModel$ShareSolveModel", name := "port", desc := "()I" } : Jvm.MethodName) ({ cls := "WasteHouseModel$ShareSolveModel", name := "port", desc := "()I" } : Jvm.MethodName)) ∈ lw_all := lw_g (lw_at lw_m34 90 rfl) rfl
theorem q8403 : (Jvm.Cond.code ({ cls := "WasteHouseModel$ShareSolveModel", name := "port", desc := "()I" } : Jvm.MethodName) prog_64_method_8_code (1 : Nat) (Option.some Jvm.ClassFile.FieldType.int)) ∈ lw_all := lw_g (lw_at lw_m34 91 rfl) rfl
theorem q8406 : (Jvm.Cond.instanceMethod ({ cls := "WasteHouseModel$ShareSolveModel", name := "joinOut", desc := "(III)Z" } : Jvm.MethodName)) ∈ lw_all := lw_g (lw_at lw_m34 94 rfl) rfl
theorem q8407 : (Jvm.Cond.selects "WasteHouseModel$ShareSolveModel" ({ cls := "WasteHouseModel$ShareSolveModel", name := "joinOut", desc := "(III)Z" } : Jvm.MethodName) ({ cls := "WasteHouseModel$ShareSolveModel", name := "joinOut", desc := "(III)Z" } : Jvm.MethodName)) ∈ lw_all := lw_g (lw_at lw_m34 95 rfl) rfl
theorem q8408 : (Jvm.Cond.code ({ cls := "WasteHouseModel$ShareSolveModel", name := "joinOut", desc := "(III)Z" } : Jvm.MethodName) prog_64_method_10_code (5 : Nat) (Option.some Jvm.ClassFile.FieldType.boolean)) ∈ lw_all := lw_g (lw_at lw_m34 96 rfl) rfl
theorem q8409 : (Jvm.Cond.methodLink "WasteHouseModel$ShareSolveModel" (129 : Nat) ({ cls := "WasteHouseModel$ShareSolveModel", name := "isOut", desc := "(II)Z" } : Jvm.MethodName)) ∈ lw_all := lw_g (lw_at lw_m34 97 rfl) rfl
theorem q8410 : (Jvm.Cond.privateMethod ({ cls := "WasteHouseModel$ShareSolveModel", name := "isOut", desc := "(II)Z" } : Jvm.MethodName)) ∈ lw_tbl := lw_at lw_m34 98 rfl
theorem q8411 : (Jvm.Cond.instanceMethod ({ cls := "WasteHouseModel$ShareSolveModel", name := "isOut", desc := "(II)Z" } : Jvm.MethodName)) ∈ lw_all := lw_g (lw_at lw_m34 99 rfl) rfl
theorem q8412 : (Jvm.Cond.code ({ cls := "WasteHouseModel$ShareSolveModel", name := "isOut", desc := "(II)Z" } : Jvm.MethodName) prog_64_method_9_code (3 : Nat) (Option.some Jvm.ClassFile.FieldType.boolean)) ∈ lw_all := lw_g (lw_at lw_m34 100 rfl) rfl
theorem q8415 : (Jvm.Cond.instanceMethod ({ cls := "WasteHouseModel$ShareSolveModel", name := "share", desc := "(IIIJJ)Z" } : Jvm.MethodName)) ∈ lw_all := lw_g (lw_at lw_m34 103 rfl) rfl
theorem q8416 : (Jvm.Cond.selects "WasteHouseModel$ShareSolveModel" ({ cls := "WasteHouseModel$ShareSolveModel", name := "share", desc := "(IIIJJ)Z" } : Jvm.MethodName) ({ cls := "WasteHouseModel$ShareSolveModel", name := "share", desc := "(IIIJJ)Z" } : Jvm.MethodName)) ∈ lw_all := lw_g (lw_at lw_m34 104 rfl) rfl
theorem q8417 : (Jvm.Cond.code ({ cls := "WasteHouseModel$ShareSolveModel", name := "share", desc := "(IIIJJ)Z" } : Jvm.MethodName) prog_64_method_13_code (8 : Nat) (Option.some Jvm.ClassFile.FieldType.boolean)) ∈ lw_all := lw_g (lw_at lw_m34 105 rfl) rfl
theorem q8418 : (Jvm.Cond.methodLink "WasteHouseModel$ShareSolveModel" (136 : Nat) ({ cls := "WasteHouseModel$ShareSolveModel", name := "isFree", desc := "(III)Z" } : Jvm.MethodName)) ∈ lw_all := lw_g (lw_at lw_m34 106 rfl) rfl
theorem q8419 : (Jvm.Cond.privateMethod ({ cls := "WasteHouseModel$ShareSolveModel", name := "isFree", desc := "(III)Z" } : Jvm.MethodName)) ∈ lw_tbl := lw_at lw_m34 107 rfl
theorem q8420 : (Jvm.Cond.instanceMethod ({ cls := "WasteHouseModel$ShareSolveModel", name := "isFree", desc := "(III)Z" } : Jvm.MethodName)) ∈ lw_all := lw_g (lw_at lw_m34 108 rfl) rfl
theorem q8421 : (Jvm.Cond.code ({ cls := "WasteHouseModel$ShareSolveModel", name := "isFree", desc := "(III)Z" } : Jvm.MethodName) prog_64_method_12_code (4 : Nat) (Option.some Jvm.ClassFile.FieldType.boolean)) ∈ lw_all := lw_g (lw_at lw_m34 109 rfl) rfl
theorem q8422 : (Jvm.Cond.methodLink "WasteHouseModel$ShareSolveModel" (140 : Nat) ({ cls := "WasteHouseModel$ShareSolveModel", name := "isShare", desc := "(JJ)Z" } : Jvm.MethodName)) ∈ lw_all := lw_g (lw_at lw_m34 110 rfl) rfl
theorem q8423 : (Jvm.Cond.static ({ cls := "WasteHouseModel$ShareSolveModel", name := "isShare", desc := "(JJ)Z" } : Jvm.MethodName)) ∈ lw_all := lw_g (lw_at lw_m34 111 rfl) rfl
theorem q8424 : (Jvm.Cond.code ({ cls := "WasteHouseModel$ShareSolveModel", name := "isShare", desc := "(JJ)Z" } : Jvm.MethodName) prog_64_method_3_code (4 : Nat) (Option.some Jvm.ClassFile.FieldType.boolean)) ∈ lw_all := lw_g (lw_at lw_m34 112 rfl) rfl
theorem q8425 : (Jvm.Cond.constantLong "WasteHouseModel$ShareSolveModel" (116 : Nat) (12 : Int64)) ∈ lw_all := lw_g (lw_at lw_m34 113 rfl) rfl
theorem q8426 : (Jvm.Cond.methodLink "WasteHouseModel$ShareSolveModel" (144 : Nat) ({ cls := "WasteHouseModel$ShareSolveModel", name := "fits", desc := "(IIIJJ)Z" } : Jvm.MethodName)) ∈ lw_all := lw_g (lw_at lw_m34 114 rfl) rfl
theorem q8427 : (Jvm.Cond.privateMethod ({ cls := "WasteHouseModel$ShareSolveModel", name := "fits", desc := "(IIIJJ)Z" } : Jvm.MethodName)) ∈ lw_tbl := lw_at lw_m34 115 rfl
theorem q8428 : (Jvm.Cond.instanceMethod ({ cls := "WasteHouseModel$ShareSolveModel", name := "fits", desc := "(IIIJJ)Z" } : Jvm.MethodName)) ∈ lw_all := lw_g (lw_at lw_m34 116 rfl) rfl
theorem q8429 : (Jvm.Cond.code ({ cls := "WasteHouseModel$ShareSolveModel", name := "fits", desc := "(IIIJJ)Z" } : Jvm.MethodName) prog_64_method_11_code (11 : Nat) (Option.some Jvm.ClassFile.FieldType.boolean)) ∈ lw_all := lw_g (lw_at lw_m34 117 rfl) rfl
theorem q8432 : (Jvm.Cond.instanceMethod ({ cls := "WasteHouseModel$ShareSolveModel", name := "crush", desc := "(IIIJJ)Z" } : Jvm.MethodName)) ∈ lw_all := lw_g (lw_at lw_m34 120 rfl) rfl
theorem q8433 : (Jvm.Cond.selects "WasteHouseModel$ShareSolveModel" ({ cls := "WasteHouseModel$ShareSolveModel", name := "crush", desc := "(IIIJJ)Z" } : Jvm.MethodName) ({ cls := "WasteHouseModel$ShareSolveModel", name := "crush", desc := "(IIIJJ)Z" } : Jvm.MethodName)) ∈ lw_all := lw_g (lw_at lw_m34 121 rfl) rfl
theorem q8434 : (Jvm.Cond.code ({ cls := "WasteHouseModel$ShareSolveModel", name := "crush", desc := "(IIIJJ)Z" } : Jvm.MethodName) prog_64_method_14_code (8 : Nat) (Option.some Jvm.ClassFile.FieldType.boolean)) ∈ lw_all := lw_g (lw_at lw_m34 122 rfl) rfl
theorem q8440 : (Jvm.Cond.instanceMethod ({ cls := "WasteHouseModel$ShareSolveModel", name := "load", desc := "(II)J" } : Jvm.MethodName)) ∈ lw_all := lw_g (lw_at lw_m34 128 rfl) rfl
theorem q8441 : (Jvm.Cond.selects "WasteHouseModel$ShareSolveModel" ({ cls := "WasteHouseModel$ShareSolveModel", name := "load", desc := "(II)J" } : Jvm.MethodName) ({ cls := "WasteHouseModel$ShareSolveModel", name := "load", desc := "(II)J" } : Jvm.MethodName)) ∈ lw_all := lw_g (lw_at lw_m34 129 rfl) rfl
theorem q8442 : (Jvm.Cond.code ({ cls := "WasteHouseModel$ShareSolveModel", name := "load", desc := "(II)J" } : Jvm.MethodName) prog_64_method_54_code (3 : Nat) (Option.some Jvm.ClassFile.FieldType.long)) ∈ lw_all := lw_g (lw_at lw_m34 130 rfl) rfl
theorem q8443 : (Jvm.Cond.methodLink "WasteHouseModel$ShareSolveModel" (279 : Nat) ({ cls := "WasteHouseModel$ShareSolveModel", name := "reckonLoad", desc := "(I)V" } : Jvm.MethodName)) ∈ lw_all := lw_g (lw_at lw_m34 131 rfl) rfl
theorem q8444 : (Jvm.Cond.privateMethod ({ cls := "WasteHouseModel$ShareSolveModel", name := "reckonLoad", desc := "(I)V" } : Jvm.MethodName)) ∈ lw_tbl := lw_at lw_m34 132 rfl
theorem q8445 : (Jvm.Cond.instanceMethod ({ cls := "WasteHouseModel$ShareSolveModel", name := "reckonLoad", desc := "(I)V" } : Jvm.MethodName)) ∈ lw_all := lw_g (lw_at lw_m34 133 rfl) rfl
theorem q8446 : (Jvm.Cond.code ({ cls := "WasteHouseModel$ShareSolveModel", name := "reckonLoad", desc := "(I)V" } : Jvm.MethodName) prog_64_method_53_code (3 : Nat) (Option.none : Option Jvm.ClassFile.FieldType)) ∈ lw_all := lw_g (lw_at lw_m34 134 rfl) rfl
theorem q8450 : (Jvm.Cond.instanceMethod ({ cls := "WasteHouseModel$ShareSolveModel", name := "span", desc := "(IJJ)Z" } : Jvm.MethodName)) ∈ lw_all := lw_g (lw_at lw_m34 138 rfl) rfl
theorem q8451 : (Jvm.Cond.selects "WasteHouseModel$ShareSolveModel" ({ cls := "WasteHouseModel$ShareSolveModel", name := "span", desc := "(IJJ)Z" } : Jvm.MethodName) ({ cls := "WasteHouseModel$ShareSolveModel", name := "span", desc := "(IJJ)Z" } : Jvm.MethodName)) ∈ lw_all := lw_g (lw_at lw_m34 139 rfl) rfl
theorem q8452 : (Jvm.Cond.code ({ cls := "WasteHouseModel$ShareSolveModel", name := "span", desc := "(IJJ)Z" } : Jvm.MethodName) prog_64_method_16_code (6 : Nat) (Option.some Jvm.ClassFile.FieldType.boolean)) ∈ lw_all := lw_g (lw_at lw_m34 140 rfl) rfl
theorem q8455 : (Jvm.Cond.instanceMethod ({ cls := "WasteHouseModel$ShareSolveModel", name := "over", desc := "(I)I" } : Jvm.MethodName)) ∈ lw_all := lw_g (lw_at lw_m34 143 rfl) rfl
theorem q8456 : (Jvm.Cond.selects "WasteHouseModel$ShareSolveModel" ({ cls := "WasteHouseModel$ShareSolveModel", name := "over", desc := "(I)I" } : Jvm.MethodName) ({ cls := "WasteHouseModel$ShareSolveModel", name := "over", desc := "(I)I" } : Jvm.MethodName)) ∈ lw_all := lw_g (lw_at lw_m34 144 rfl) rfl
theorem q8457 : (Jvm.Cond.code ({ cls := "WasteHouseModel$ShareSolveModel", name := "over", desc := "(I)I" } : Jvm.MethodName) prog_64_method_56_code (4 : Nat) (Option.some Jvm.ClassFile.FieldType.int)) ∈ lw_all := lw_g (lw_at lw_m34 145 rfl) rfl
theorem q8458 : (Jvm.Cond.methodLink "WasteHouseModel$ShareSolveModel" (282 : Nat) ({ cls := "WasteHouseModel$ShareSolveModel", name := "isOver", desc := "(I)Z" } : Jvm.MethodName)) ∈ lw_all := lw_g (lw_at lw_m34 146 rfl) rfl
theorem q8459 : (Jvm.Cond.privateMethod ({ cls := "WasteHouseModel$ShareSolveModel", name := "isOver", desc := "(I)Z" } : Jvm.MethodName)) ∈ lw_tbl := lw_at lw_m34 147 rfl
theorem q8460 : (Jvm.Cond.instanceMethod ({ cls := "WasteHouseModel$ShareSolveModel", name := "isOver", desc := "(I)Z" } : Jvm.MethodName)) ∈ lw_all := lw_g (lw_at lw_m34 148 rfl) rfl
theorem q8461 : (Jvm.Cond.code ({ cls := "WasteHouseModel$ShareSolveModel", name := "isOver", desc := "(I)Z" } : Jvm.MethodName) prog_64_method_55_code (4 : Nat) (Option.some Jvm.ClassFile.FieldType.boolean)) ∈ lw_all := lw_g (lw_at lw_m34 149 rfl) rfl
theorem q8465 : (Jvm.Cond.instanceMethod ({ cls := "WasteHouseModel$ShareSolveModel", name := "slope", desc := "(IIIII)J" } : Jvm.MethodName)) ∈ lw_all := lw_g (lw_at lw_m34 153 rfl) rfl
theorem q8466 : (Jvm.Cond.selects "WasteHouseModel$ShareSolveModel" ({ cls := "WasteHouseModel$ShareSolveModel", name := "slope", desc := "(IIIII)J" } : Jvm.MethodName) ({ cls := "WasteHouseModel$ShareSolveModel", name := "slope", desc := "(IIIII)J" } : Jvm.MethodName)) ∈ lw_all := lw_g (lw_at lw_m34 154 rfl) rfl
theorem q8467 : (Jvm.Cond.code ({ cls := "WasteHouseModel$ShareSolveModel", name := "slope", desc := "(IIIII)J" } : Jvm.MethodName) prog_64_method_58_code (9 : Nat) (Option.some Jvm.ClassFile.FieldType.long)) ∈ lw_all := lw_g (lw_at lw_m34 155 rfl) rfl
theorem q8468 : (Jvm.Cond.methodLink "WasteHouseModel$ShareSolveModel" (288 : Nat) ({ cls := "WasteHouseModel$ShareSolveModel", name := "gatherOut", desc := "(IIIII)V" } : Jvm.MethodName)) ∈ lw_all := lw_g (lw_at lw_m34 156 rfl) rfl
theorem q8469 : (Jvm.Cond.privateMethod ({ cls := "WasteHouseModel$ShareSolveModel", name := "gatherOut", desc := "(IIIII)V" } : Jvm.MethodName)) ∈ lw_tbl := lw_at lw_m34 157 rfl
theorem q8470 : (Jvm.Cond.instanceMethod ({ cls := "WasteHouseModel$ShareSolveModel", name := "gatherOut", desc := "(IIIII)V" } : Jvm.MethodName)) ∈ lw_all := lw_g (lw_at lw_m34 158 rfl) rfl
theorem q8471 : (Jvm.Cond.code ({ cls := "WasteHouseModel$ShareSolveModel", name := "gatherOut", desc := "(IIIII)V" } : Jvm.MethodName) prog_64_method_57_code (7 : Nat) (Option.none : Option Jvm.ClassFile.FieldType)) ∈ lw_all := lw_g (lw_at lw_m34 159 rfl) rfl
theorem q8472 : (Jvm.Cond.methodLink "WasteHouseModel$ShareSolveModel" (285 : Nat) ({ cls := "WasteHouseModel$ShareSolveModel", name := "gatherWorth", desc := "(II)V" } : Jvm.MethodName)) ∈ lw_all := lw_g (lw_at lw_m34 160 rfl) rfl
theorem q8473 : (Jvm.Cond.privateMethod ({ cls := "WasteHouseModel$ShareSolveModel", name := "gatherWorth", desc := "(II)V" } : Jvm.MethodName)) ∈ lw_tbl := lw_at lw_m34 161 rfl
theorem q8474 : (Jvm.Cond.instanceMethod ({ cls := "WasteHouseModel$ShareSolveModel", name := "gatherWorth", desc := "(II)V" } : Jvm.MethodName)) ∈ lw_all := lw_g (lw_at lw_m34 162 rfl) rfl
theorem q8475 : (Jvm.Cond.code ({ cls := "WasteHouseModel$ShareSolveModel", name := "gatherWorth", desc := "(II)V" } : Jvm.MethodName) prog_64_method_48_code (9 : Nat) (Option.none : Option Jvm.ClassFile.FieldType)) ∈ lw_all := lw_g (lw_at lw_m34 163 rfl) rfl
theorem q8476 : (Jvm.Cond.methodLink "WasteHouseModel$ShareSolveModel" (292 : Nat) ({ cls := "WasteHouseModel$ShareSolveModel", name := "isLess", desc := "(II)Z" } : Jvm.MethodName)) ∈ lw_all := lw_g (lw_at lw_m34 164 rfl) rfl
theorem q8477 : (Jvm.Cond.privateMethod ({ cls := "WasteHouseModel$ShareSolveModel", name := "isLess", desc := "(II)Z" } : Jvm.MethodName)) ∈ lw_tbl := lw_at lw_m34 165 rfl
theorem q8478 : (Jvm.Cond.instanceMethod ({ cls := "WasteHouseModel$ShareSolveModel", name := "isLess", desc := "(II)Z" } : Jvm.MethodName)) ∈ lw_all := lw_g (lw_at lw_m34 166 rfl) rfl
theorem q8479 : (Jvm.Cond.code ({ cls := "WasteHouseModel$ShareSolveModel", name := "isLess", desc := "(II)Z" } : Jvm.MethodName) prog_64_method_33_code (4 : Nat) (Option.some Jvm.ClassFile.FieldType.boolean)) ∈ lw_all := lw_g (lw_at lw_m34 167 rfl) rfl
theorem q8480 : (Jvm.Cond.methodLink "WasteHouseModel$ShareSolveModel" (295 : Nat) ({ cls := "WasteHouseModel$ShareSolveModel", name := "multiply", desc := "(III)V" } : Jvm.MethodName)) ∈ lw_all := lw_g (lw_at lw_m34 168 rfl) rfl
theorem q8481 : (Jvm.Cond.privateMethod ({ cls := "WasteHouseModel$ShareSolveModel", name := "multiply", desc := "(III)V" } : Jvm.MethodName)) ∈ lw_tbl := lw_at lw_m34 169 rfl
theorem q8482 : (Jvm.Cond.instanceMethod ({ cls := "WasteHouseModel$ShareSolveModel", name := "multiply", desc := "(III)V" } : Jvm.MethodName)) ∈ lw_all := lw_g (lw_at lw_m34 170 rfl) rfl
theorem q8483 : (Jvm.Cond.code ({ cls := "WasteHouseModel$ShareSolveModel", name := "multiply", desc := "(III)V" } : Jvm.MethodName) prog_64_method_36_code (10 : Nat) (Option.none : Option Jvm.ClassFile.FieldType)) ∈ lw_all := lw_g (lw_at lw_m34 171 rfl) rfl
theorem q8486 : (Jvm.Cond.instanceMethod ({ cls := "WasteHouseModel$ShareSolveModel", name := "purity", desc := "(III)J" } : Jvm.MethodName)) ∈ lw_all := lw_g (lw_at lw_m34 174 rfl) rfl
theorem q8487 : (Jvm.Cond.selects "WasteHouseModel$ShareSolveModel" ({ cls := "WasteHouseModel$ShareSolveModel", name := "purity", desc := "(III)J" } : Jvm.MethodName) ({ cls := "WasteHouseModel$ShareSolveModel", name := "purity", desc := "(III)J" } : Jvm.MethodName)) ∈ lw_all := lw_g (lw_at lw_m34 175 rfl) rfl
theorem q8488 : (Jvm.Cond.code ({ cls := "WasteHouseModel$ShareSolveModel", name := "purity", desc := "(III)J" } : Jvm.MethodName) prog_64_method_59_code (4 : Nat) (Option.some Jvm.ClassFile.FieldType.long)) ∈ lw_all := lw_g (lw_at lw_m34 176 rfl) rfl
theorem q8491 : (Jvm.Cond.instanceMethod ({ cls := "WasteHouseModel$ShareSolveModel", name := "change", desc := "(IIIJJ)Z" } : Jvm.MethodName)) ∈ lw_all := lw_g (lw_at lw_m34 179 rfl) rfl
theorem q8492 : (Jvm.Cond.selects "WasteHouseModel$ShareSolveModel" ({ cls := "WasteHouseModel$ShareSolveModel", name := "change", desc := "(IIIJJ)Z" } : Jvm.MethodName) ({ cls := "WasteHouseModel$ShareSolveModel", name := "change", desc := "(IIIJJ)Z" } : Jvm.MethodName)) ∈ lw_all := lw_g (lw_at lw_m34 180 rfl) rfl
theorem q8493 : (Jvm.Cond.code ({ cls := "WasteHouseModel$ShareSolveModel", name := "change", desc := "(IIIJJ)Z" } : Jvm.MethodName) prog_64_method_60_code (9 : Nat) (Option.some Jvm.ClassFile.FieldType.boolean)) ∈ lw_all := lw_g (lw_at lw_m34 181 rfl) rfl
theorem q8494 : (Jvm.Cond.methodLink "WasteHouseModel$ShareSolveModel" (297 : Nat) ({ cls := "WasteHouseModel$ShareSolveModel", name := "share", desc := "(IIIJJ)Z" } : Jvm.MethodName)) ∈ lw_all := lw_g (lw_at lw_m34 182 rfl) rfl
theorem q8495 : (Jvm.Cond.methodLink "WasteHouseModel$ShareSolveModel" (300 : Nat) ({ cls := "WasteHouseModel$ShareSolveModel", name := "solve", desc := "()I" } : Jvm.MethodName)) ∈ lw_all := lw_g (lw_at lw_m34 183 rfl) rfl
theorem q8498 : (Jvm.Cond.instanceMethod ({ cls := "WasteHouseModel$ShareSolveModel", name := "find", desc := "(IIJ)I" } : Jvm.MethodName)) ∈ lw_all := lw_g (lw_at lw_m34 186 rfl) rfl
theorem q8499 : (Jvm.Cond.selects "WasteHouseModel$ShareSolveModel" ({ cls := "WasteHouseModel$ShareSolveModel", name := "find", desc := "(IIJ)I" } : Jvm.MethodName) ({ cls := "WasteHouseModel$ShareSolveModel", name := "find", desc := "(IIJ)I" } : Jvm.MethodName)) ∈ lw_all := lw_g (lw_at lw_m34 187 rfl) rfl
theorem q8500 : (Jvm.Cond.code ({ cls := "WasteHouseModel$ShareSolveModel", name := "find", desc := "(IIJ)I" } : Jvm.MethodName) prog_64_method_61_code (10 : Nat) (Option.some Jvm.ClassFile.FieldType.int)) ∈ lw_all := lw_g (lw_at lw_m34 188 rfl) rfl
theorem q8501 : (Jvm.Cond.methodLink "WasteHouseModel$ShareSolveModel" (304 : Nat) ({ cls := "WasteHouseModel$ShareSolveModel", name := "brings", desc := "(IJ)Z" } : Jvm.MethodName)) ∈ lw_all := lw_g (lw_at lw_m34 189 rfl) rfl
theorem q8502 : (Jvm.Cond.privateMethod ({ cls := "WasteHouseModel$ShareSolveModel", name := "brings", desc := "(IJ)Z" } : Jvm.MethodName)) ∈ lw_tbl := lw_at lw_m34 190 rfl
theorem q8503 : (Jvm.Cond.instanceMethod ({ cls := "WasteHouseModel$ShareSolveModel", name := "brings", desc := "(IJ)Z" } : Jvm.MethodName)) ∈ lw_all := lw_g (lw_at lw_m34 191 rfl) rfl
theorem q8504 : (Jvm.Cond.code ({ cls := "WasteHouseModel$ShareSolveModel", name := "brings", desc := "(IJ)Z" } : Jvm.MethodName) prog_64_method_62_code (4 : Nat) (Option.some Jvm.ClassFile.FieldType.boolean)) ∈ lw_all := lw_g (lw_at lw_m34 192 rfl) rfl
theorem q8507 : (Jvm.Cond.instanceMethod ({ cls := "WasteHouseModel$ShareSolveModel", name := "kept", desc := "()Z" } : Jvm.MethodName)) ∈ lw_all := lw_g (lw_at lw_m34 195 rfl) rfl
theorem q8508 : (Jvm.Cond.selects "WasteHouseModel$ShareSolveModel" ({ cls := "WasteHouseModel$ShareSolveModel", name := "kept", desc := "()Z" } : Jvm.MethodName) ({ cls := "WasteHouseModel$ShareSolveModel", name := "kept", desc := "()Z" } : Jvm.MethodName)) ∈ lw_all := lw_g (lw_at lw_m34 196 rfl) rfl
theorem q8509 : (Jvm.Cond.code ({ cls := "WasteHouseModel$ShareSolveModel", name := "kept", desc := "()Z" } : Jvm.MethodName) prog_64_method_63_code (1 : Nat) (Option.some Jvm.ClassFile.FieldType.boolean)) ∈ lw_all := lw_g (lw_at lw_m34 197 rfl) rfl
theorem q9673 : (Jvm.Cond.castable "WasteHouseModel$ShareSolveModel" "java/lang/Object") ∈ lw_tbl := lw_at lw_m39 161 rfl
theorem in_X50 : ∀ w ∈ wsX500, w ∈ lw_all := lw_in wsX500 [6812, 6814, 6816, 6818, 6820, 6822, 6824, 6826, 6828, 6830, 6832, 6834, 6836, 6838, 6840, 6842, 6844, 6846, 6848, 6850, 6852, 6854, 6856, 6858, 6860, 6862, 6864, 6866, 6868, 6870, 6872, 6874, 6876, 6878] (by decide +kernel) (by decide +kernel)
