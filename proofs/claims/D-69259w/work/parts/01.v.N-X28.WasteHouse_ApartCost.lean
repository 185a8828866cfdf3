/-! WasteHouse$ApartCost -/
set_option maxRecDepth 100000
def RX28 : String := "WasteHouse$ApartCost"
def TX28 : u_T := fun k => match k with
  | 0 => ("WasteHouse$ApartCost", "acts", "[LWasteHouse$ApartCost$Act;", true)
  | 1 => ("WasteHouse$ApartCost", "count", "I", false)
  | 2 => ("WasteHouse$ApartCost", "changes", "LWasteHouse$ApartCost$Steps;", true)
  | 3 => ("WasteHouse$ApartCost", "turns", "LWasteHouse$ApartCost$Steps;", true)
  | 4 => ("WasteHouse$ApartCost", "worths", "[I", true)
  | 5 => ("WasteHouse$ApartCost", "chances", "[I", true)
  | 6 => ("WasteHouse$ApartCost", "restSets", "[I", true)
  | 7 => ("WasteHouse$ApartCost", "restWorths", "[I", true)
  | 8 => ("WasteHouse$ApartCost", "rests", "I", false)
  | 9 => ("WasteHouse$ApartCost", "best", "[J", true)
  | 10 => ("WasteHouse$ApartCost", "hasFound", "Z", false)
  | 11 => ("WasteHouse$ApartCost", "isProved", "Z", false)
  | 12 => ("WasteHouse$ApartCost", "row", "[I", true)
  | 13 => ("WasteHouse$ApartCost", "length", "I", false)
  | 14 => ("WasteHouse$ApartCost", "rowSet", "I", false)
  | 15 => ("WasteHouse$ApartCost", "foundGain", "J", false)
  | 16 => ("WasteHouse$ApartCost", "foundParts", "[J", true)
  | 17 => ("WasteHouse$ApartCost", "foundRest", "I", false)
  | 18 => ("WasteHouse$ApartCost", "foundCount", "I", false)
  | 19 => ("WasteHouse$ApartCost", "shared", "[I", true)
  | 20 => ("WasteHouse$ApartCost", "trial", "[I", true)
  | _ => ("WasteHouse$ApartCost", "sums", "[J", true)
def tyX28 : Nat → FieldType := fun k => match k with
  | 0 => .array (.object "WasteHouse$ApartCost$Act")
  | 1 => .int
  | 2 => .object "WasteHouse$ApartCost$Steps"
  | 3 => .object "WasteHouse$ApartCost$Steps"
  | 4 => .array .int
  | 5 => .array .int
  | 6 => .array .int
  | 7 => .array .int
  | 8 => .int
  | 9 => .array .long
  | 10 => .boolean
  | 11 => .boolean
  | 12 => .array .int
  | 13 => .int
  | 14 => .int
  | 15 => .long
  | 16 => .array .long
  | 17 => .int
  | 18 => .int
  | 19 => .array .int
  | 20 => .array .int
  | _ => .array .long
abbrev wsX280 : List Cond := u_ws RX28 TX28 22
set_option maxRecDepth 100000 in
theorem nmX28 : ∀ a, a < 22 → ∀ b, b < 22 → a ≠ b → (TX28 a).2.1 ≠ (TX28 b).2.1 := by decide +kernel
set_option maxRecDepth 100000 in
theorem tyX28_ok : ∀ k, k < 22 → parseFieldDescriptor (TX28 k).2.2.1 = some (tyX28 k) := by decide +kernel
abbrev cX28_init : ByteArray := prog_2_method_1_code
def yX28_init : MethodName := ⟨RX28, "<init>", "()V"⟩
def dkwX28_init_7 : List UInt8 := [132, 1, 1, 167, 255, 238, 177]
abbrev dktX28_init_7 : List UInt8 := dkwX28_init_7 ++ []
def dkwX28_init_6 : List UInt8 := [79, 132, 1, 1, 167, 255, 227, 3, 60, 27, 16, 12, 162, 0, 18, 42, 180, 0, 29, 27, 17, 108, 72, 79]
abbrev dktX28_init_6 : List UInt8 := dkwX28_init_6 ++ dktX28_init_7
def dkwX28_init_5 : List UInt8 := [16, 10, 162, 0, 29, 42, 180, 0, 9, 27, 187, 0, 7, 89, 183, 0, 57, 83, 42, 180, 0, 48, 27, 2]
abbrev dktX28_init_5 : List UInt8 := dkwX28_init_5 ++ dktX28_init_6
def dkwX28_init_4 : List UInt8 := [188, 10, 181, 0, 48, 42, 16, 10, 188, 10, 181, 0, 51, 42, 7, 188, 11, 181, 0, 54, 3, 60, 27]
abbrev dktX28_init_4 : List UInt8 := dkwX28_init_4 ++ dktX28_init_5
def dkwX28_init_3 : List UInt8 := [188, 11, 181, 0, 38, 42, 16, 10, 188, 10, 181, 0, 42, 42, 16, 12, 188, 11, 181, 0, 45, 42, 16, 10]
abbrev dktX28_init_3 : List UInt8 := dkwX28_init_3 ++ dktX28_init_4
def dkwX28_init_2 : List UInt8 := [181, 0, 29, 42, 16, 16, 188, 10, 181, 0, 32, 42, 16, 16, 188, 10, 181, 0, 35, 42, 17, 44, 0]
abbrev dktX28_init_2 : List UInt8 := dkwX28_init_2 ++ dktX28_init_3
def dkwX28_init_1 : List UInt8 := [42, 187, 0, 15, 89, 183, 0, 17, 181, 0, 22, 42, 16, 12, 188, 10, 181, 0, 25, 42, 16, 12, 188, 10]
abbrev dktX28_init_1 : List UInt8 := dkwX28_init_1 ++ dktX28_init_2
def dkwX28_init_0 : List UInt8 := [42, 183, 0, 1, 42, 16, 10, 189, 0, 7, 181, 0, 9, 42, 187, 0, 15, 89, 183, 0, 17, 181, 0, 18]
abbrev dktX28_init_0 : List UInt8 := dkwX28_init_0 ++ dktX28_init_1
theorem dksX28_init_0 : cX28_init.data.toList.drop 0 = dktX28_init_0 := by decide +kernel
theorem dksX28_init_1 : cX28_init.data.toList.drop 24 = dktX28_init_1 := dk_seg dksX28_init_0 24 rfl rfl
theorem dksX28_init_2 : cX28_init.data.toList.drop 48 = dktX28_init_2 := dk_seg dksX28_init_1 24 rfl rfl
theorem dksX28_init_3 : cX28_init.data.toList.drop 71 = dktX28_init_3 := dk_seg dksX28_init_2 23 rfl rfl
theorem dksX28_init_4 : cX28_init.data.toList.drop 95 = dktX28_init_4 := dk_seg dksX28_init_3 24 rfl rfl
theorem dksX28_init_5 : cX28_init.data.toList.drop 118 = dktX28_init_5 := dk_seg dksX28_init_4 23 rfl rfl
theorem dksX28_init_6 : cX28_init.data.toList.drop 142 = dktX28_init_6 := dk_seg dksX28_init_5 24 rfl rfl
theorem dksX28_init_7 : cX28_init.data.toList.drop 166 = dktX28_init_7 := dk_seg dksX28_init_6 24 rfl rfl
theorem dX28_init_0 : decode cX28_init 0 = .ok (.aload_n 0, 1) := dk_42 (dk_at dksX28_init_0 0 rfl rfl)
theorem dX28_init_1 : decode cX28_init 1 = .ok (.invokespecial 1, 3) := dk_183 0 1 (dk_at dksX28_init_0 1 rfl rfl)
theorem dX28_init_4 : decode cX28_init 4 = .ok (.aload_n 0, 1) := dk_42 (dk_at dksX28_init_0 4 rfl rfl)
theorem dX28_init_5 : decode cX28_init 5 = .ok (.bipush 10, 2) := dk_16 10 (dk_at dksX28_init_0 5 rfl rfl)
theorem dX28_init_7 : decode cX28_init 7 = .ok (.anewarray 7, 3) := dk_189 0 7 (dk_at dksX28_init_0 7 rfl rfl)
theorem dX28_init_10 : decode cX28_init 10 = .ok (.putfield 9, 3) := dk_181 0 9 (dk_at dksX28_init_0 10 rfl rfl)
theorem dX28_init_13 : decode cX28_init 13 = .ok (.aload_n 0, 1) := dk_42 (dk_at dksX28_init_0 13 rfl rfl)
theorem dX28_init_14 : decode cX28_init 14 = .ok (.new 15, 3) := dk_187 0 15 (dk_at dksX28_init_0 14 rfl rfl)
theorem dX28_init_17 : decode cX28_init 17 = .ok (.dup, 1) := dk_89 (dk_at dksX28_init_0 17 rfl rfl)
theorem dX28_init_18 : decode cX28_init 18 = .ok (.invokespecial 17, 3) := dk_183 0 17 (dk_at dksX28_init_0 18 rfl rfl)
theorem dX28_init_21 : decode cX28_init 21 = .ok (.putfield 18, 3) := dk_181 0 18 (dk_at dksX28_init_0 21 rfl rfl)
theorem dX28_init_24 : decode cX28_init 24 = .ok (.aload_n 0, 1) := dk_42 (dk_at dksX28_init_1 0 rfl rfl)
theorem dX28_init_25 : decode cX28_init 25 = .ok (.new 15, 3) := dk_187 0 15 (dk_at dksX28_init_1 1 rfl rfl)
theorem dX28_init_28 : decode cX28_init 28 = .ok (.dup, 1) := dk_89 (dk_at dksX28_init_1 4 rfl rfl)
theorem dX28_init_29 : decode cX28_init 29 = .ok (.invokespecial 17, 3) := dk_183 0 17 (dk_at dksX28_init_1 5 rfl rfl)
theorem dX28_init_32 : decode cX28_init 32 = .ok (.putfield 22, 3) := dk_181 0 22 (dk_at dksX28_init_1 8 rfl rfl)
theorem dX28_init_35 : decode cX28_init 35 = .ok (.aload_n 0, 1) := dk_42 (dk_at dksX28_init_1 11 rfl rfl)
theorem dX28_init_36 : decode cX28_init 36 = .ok (.bipush 12, 2) := dk_16 12 (dk_at dksX28_init_1 12 rfl rfl)
theorem dX28_init_38 : decode cX28_init 38 = .ok (.newarray .int, 2) := dk_188_10 (dk_at dksX28_init_1 14 rfl rfl)
theorem dX28_init_40 : decode cX28_init 40 = .ok (.putfield 25, 3) := dk_181 0 25 (dk_at dksX28_init_1 16 rfl rfl)
theorem dX28_init_43 : decode cX28_init 43 = .ok (.aload_n 0, 1) := dk_42 (dk_at dksX28_init_1 19 rfl rfl)
theorem dX28_init_44 : decode cX28_init 44 = .ok (.bipush 12, 2) := dk_16 12 (dk_at dksX28_init_1 20 rfl rfl)
theorem dX28_init_46 : decode cX28_init 46 = .ok (.newarray .int, 2) := dk_188_10 (dk_at dksX28_init_1 22 rfl rfl)
theorem dX28_init_48 : decode cX28_init 48 = .ok (.putfield 29, 3) := dk_181 0 29 (dk_at dksX28_init_2 0 rfl rfl)
theorem dX28_init_51 : decode cX28_init 51 = .ok (.aload_n 0, 1) := dk_42 (dk_at dksX28_init_2 3 rfl rfl)
theorem dX28_init_52 : decode cX28_init 52 = .ok (.bipush 16, 2) := dk_16 16 (dk_at dksX28_init_2 4 rfl rfl)
theorem dX28_init_54 : decode cX28_init 54 = .ok (.newarray .int, 2) := dk_188_10 (dk_at dksX28_init_2 6 rfl rfl)
theorem dX28_init_56 : decode cX28_init 56 = .ok (.putfield 32, 3) := dk_181 0 32 (dk_at dksX28_init_2 8 rfl rfl)
theorem dX28_init_59 : decode cX28_init 59 = .ok (.aload_n 0, 1) := dk_42 (dk_at dksX28_init_2 11 rfl rfl)
theorem dX28_init_60 : decode cX28_init 60 = .ok (.bipush 16, 2) := dk_16 16 (dk_at dksX28_init_2 12 rfl rfl)
theorem dX28_init_62 : decode cX28_init 62 = .ok (.newarray .int, 2) := dk_188_10 (dk_at dksX28_init_2 14 rfl rfl)
theorem dX28_init_64 : decode cX28_init 64 = .ok (.putfield 35, 3) := dk_181 0 35 (dk_at dksX28_init_2 16 rfl rfl)
theorem dX28_init_67 : decode cX28_init 67 = .ok (.aload_n 0, 1) := dk_42 (dk_at dksX28_init_2 19 rfl rfl)
theorem dX28_init_68 : decode cX28_init 68 = .ok (.sipush 11264, 3) := dk_17 44 0 (dk_at dksX28_init_2 20 rfl rfl)
theorem dX28_init_71 : decode cX28_init 71 = .ok (.newarray .long, 2) := dk_188_11 (dk_at dksX28_init_3 0 rfl rfl)
theorem dX28_init_73 : decode cX28_init 73 = .ok (.putfield 38, 3) := dk_181 0 38 (dk_at dksX28_init_3 2 rfl rfl)
theorem dX28_init_76 : decode cX28_init 76 = .ok (.aload_n 0, 1) := dk_42 (dk_at dksX28_init_3 5 rfl rfl)
theorem dX28_init_77 : decode cX28_init 77 = .ok (.bipush 10, 2) := dk_16 10 (dk_at dksX28_init_3 6 rfl rfl)
theorem dX28_init_79 : decode cX28_init 79 = .ok (.newarray .int, 2) := dk_188_10 (dk_at dksX28_init_3 8 rfl rfl)
theorem dX28_init_81 : decode cX28_init 81 = .ok (.putfield 42, 3) := dk_181 0 42 (dk_at dksX28_init_3 10 rfl rfl)
theorem dX28_init_84 : decode cX28_init 84 = .ok (.aload_n 0, 1) := dk_42 (dk_at dksX28_init_3 13 rfl rfl)
theorem dX28_init_85 : decode cX28_init 85 = .ok (.bipush 12, 2) := dk_16 12 (dk_at dksX28_init_3 14 rfl rfl)
theorem dX28_init_87 : decode cX28_init 87 = .ok (.newarray .long, 2) := dk_188_11 (dk_at dksX28_init_3 16 rfl rfl)
theorem dX28_init_89 : decode cX28_init 89 = .ok (.putfield 45, 3) := dk_181 0 45 (dk_at dksX28_init_3 18 rfl rfl)
theorem dX28_init_92 : decode cX28_init 92 = .ok (.aload_n 0, 1) := dk_42 (dk_at dksX28_init_3 21 rfl rfl)
theorem dX28_init_93 : decode cX28_init 93 = .ok (.bipush 10, 2) := dk_16 10 (dk_at dksX28_init_3 22 rfl rfl)
theorem dX28_init_95 : decode cX28_init 95 = .ok (.newarray .int, 2) := dk_188_10 (dk_at dksX28_init_4 0 rfl rfl)
theorem dX28_init_97 : decode cX28_init 97 = .ok (.putfield 48, 3) := dk_181 0 48 (dk_at dksX28_init_4 2 rfl rfl)
theorem dX28_init_100 : decode cX28_init 100 = .ok (.aload_n 0, 1) := dk_42 (dk_at dksX28_init_4 5 rfl rfl)
theorem dX28_init_101 : decode cX28_init 101 = .ok (.bipush 10, 2) := dk_16 10 (dk_at dksX28_init_4 6 rfl rfl)
theorem dX28_init_103 : decode cX28_init 103 = .ok (.newarray .int, 2) := dk_188_10 (dk_at dksX28_init_4 8 rfl rfl)
theorem dX28_init_105 : decode cX28_init 105 = .ok (.putfield 51, 3) := dk_181 0 51 (dk_at dksX28_init_4 10 rfl rfl)
theorem dX28_init_108 : decode cX28_init 108 = .ok (.aload_n 0, 1) := dk_42 (dk_at dksX28_init_4 13 rfl rfl)
theorem dX28_init_109 : decode cX28_init 109 = .ok (.iconst 4, 1) := dk_7 (dk_at dksX28_init_4 14 rfl rfl)
theorem dX28_init_110 : decode cX28_init 110 = .ok (.newarray .long, 2) := dk_188_11 (dk_at dksX28_init_4 15 rfl rfl)
theorem dX28_init_112 : decode cX28_init 112 = .ok (.putfield 54, 3) := dk_181 0 54 (dk_at dksX28_init_4 17 rfl rfl)
theorem dX28_init_115 : decode cX28_init 115 = .ok (.iconst 0, 1) := dk_3 (dk_at dksX28_init_4 20 rfl rfl)
theorem dX28_init_116 : decode cX28_init 116 = .ok (.istore_n 1, 1) := dk_60 (dk_at dksX28_init_4 21 rfl rfl)
theorem dX28_init_117 : decode cX28_init 117 = .ok (.iload_n 1, 1) := dk_27 (dk_at dksX28_init_4 22 rfl rfl)
theorem dX28_init_118 : decode cX28_init 118 = .ok (.bipush 10, 2) := dk_16 10 (dk_at dksX28_init_5 0 rfl rfl)
theorem dX28_init_120 : decode cX28_init 120 = .ok (.if_icmp .ge 29, 3) := dk_162 0 29 (dk_at dksX28_init_5 2 rfl rfl)
theorem dX28_init_123 : decode cX28_init 123 = .ok (.aload_n 0, 1) := dk_42 (dk_at dksX28_init_5 5 rfl rfl)
theorem dX28_init_124 : decode cX28_init 124 = .ok (.getfield 9, 3) := dk_180 0 9 (dk_at dksX28_init_5 6 rfl rfl)
theorem dX28_init_127 : decode cX28_init 127 = .ok (.iload_n 1, 1) := dk_27 (dk_at dksX28_init_5 9 rfl rfl)
theorem dX28_init_128 : decode cX28_init 128 = .ok (.new 7, 3) := dk_187 0 7 (dk_at dksX28_init_5 10 rfl rfl)
theorem dX28_init_131 : decode cX28_init 131 = .ok (.dup, 1) := dk_89 (dk_at dksX28_init_5 13 rfl rfl)
theorem dX28_init_132 : decode cX28_init 132 = .ok (.invokespecial 57, 3) := dk_183 0 57 (dk_at dksX28_init_5 14 rfl rfl)
theorem dX28_init_135 : decode cX28_init 135 = .ok (.aastore, 1) := dk_83 (dk_at dksX28_init_5 17 rfl rfl)
theorem dX28_init_136 : decode cX28_init 136 = .ok (.aload_n 0, 1) := dk_42 (dk_at dksX28_init_5 18 rfl rfl)
theorem dX28_init_137 : decode cX28_init 137 = .ok (.getfield 48, 3) := dk_180 0 48 (dk_at dksX28_init_5 19 rfl rfl)
theorem dX28_init_140 : decode cX28_init 140 = .ok (.iload_n 1, 1) := dk_27 (dk_at dksX28_init_5 22 rfl rfl)
theorem dX28_init_141 : decode cX28_init 141 = .ok (.iconst (-1), 1) := dk_2 (dk_at dksX28_init_5 23 rfl rfl)
theorem dX28_init_142 : decode cX28_init 142 = .ok (.iastore, 1) := dk_79 (dk_at dksX28_init_6 0 rfl rfl)
theorem dX28_init_143 : decode cX28_init 143 = .ok (.iinc 1 1, 3) := dk_132 1 1 (dk_at dksX28_init_6 1 rfl rfl)
theorem dX28_init_146 : decode cX28_init 146 = .ok (.goto (-29), 3) := dk_167 255 227 (dk_at dksX28_init_6 4 rfl rfl)
theorem dX28_init_149 : decode cX28_init 149 = .ok (.iconst 0, 1) := dk_3 (dk_at dksX28_init_6 7 rfl rfl)
theorem dX28_init_150 : decode cX28_init 150 = .ok (.istore_n 1, 1) := dk_60 (dk_at dksX28_init_6 8 rfl rfl)
theorem dX28_init_151 : decode cX28_init 151 = .ok (.iload_n 1, 1) := dk_27 (dk_at dksX28_init_6 9 rfl rfl)
theorem dX28_init_152 : decode cX28_init 152 = .ok (.bipush 12, 2) := dk_16 12 (dk_at dksX28_init_6 10 rfl rfl)
theorem dX28_init_154 : decode cX28_init 154 = .ok (.if_icmp .ge 18, 3) := dk_162 0 18 (dk_at dksX28_init_6 12 rfl rfl)
theorem dX28_init_157 : decode cX28_init 157 = .ok (.aload_n 0, 1) := dk_42 (dk_at dksX28_init_6 15 rfl rfl)
theorem dX28_init_158 : decode cX28_init 158 = .ok (.getfield 29, 3) := dk_180 0 29 (dk_at dksX28_init_6 16 rfl rfl)
theorem dX28_init_161 : decode cX28_init 161 = .ok (.iload_n 1, 1) := dk_27 (dk_at dksX28_init_6 19 rfl rfl)
theorem dX28_init_162 : decode cX28_init 162 = .ok (.sipush 27720, 3) := dk_17 108 72 (dk_at dksX28_init_6 20 rfl rfl)
theorem dX28_init_165 : decode cX28_init 165 = .ok (.iastore, 1) := dk_79 (dk_at dksX28_init_6 23 rfl rfl)
theorem dX28_init_166 : decode cX28_init 166 = .ok (.iinc 1 1, 3) := dk_132 1 1 (dk_at dksX28_init_7 0 rfl rfl)
theorem dX28_init_169 : decode cX28_init 169 = .ok (.goto (-18), 3) := dk_167 255 238 (dk_at dksX28_init_7 3 rfl rfl)
theorem dX28_init_172 : decode cX28_init 172 = .ok (.return_, 1) := dk_177 (dk_at dksX28_init_7 6 rfl rfl)
abbrev cX28_act : ByteArray := prog_2_method_5_code
def yX28_act : MethodName := ⟨RX28, "act", "(IIIJ)I"⟩
def dkwX28_act_4 : List UInt8 := [89, 180, 0, 58, 90, 4, 96, 181, 0, 58, 172]
abbrev dktX28_act_4 : List UInt8 := dkwX28_act_4 ++ []
def dkwX28_act_3 : List UInt8 := [28, 181, 0, 78, 25, 6, 29, 181, 0, 81, 25, 6, 22, 4, 136, 181, 0, 84, 42, 3, 181, 0, 87, 42]
abbrev dktX28_act_3 : List UInt8 := dkwX28_act_3 ++ dktX28_act_4
def dkwX28_act_2 : List UInt8 := [154, 0, 5, 2, 172, 42, 180, 0, 9, 42, 180, 0, 58, 50, 58, 6, 25, 6, 27, 181, 0, 75, 25, 6]
abbrev dktX28_act_2 : List UInt8 := dkwX28_act_2 ++ dktX28_act_3
def dkwX28_act_1 : List UInt8 := [184, 0, 66, 153, 0, 22, 29, 184, 0, 66, 153, 0, 15, 22, 4, 9, 20, 0, 69, 184, 0, 71]
abbrev dktX28_act_1 : List UInt8 := dkwX28_act_1 ++ dktX28_act_2
def dkwX28_act_0 : List UInt8 := [42, 180, 0, 58, 16, 10, 159, 0, 41, 27, 2, 159, 0, 10, 27, 184, 0, 62, 153, 0, 29, 28]
abbrev dktX28_act_0 : List UInt8 := dkwX28_act_0 ++ dktX28_act_1
theorem dksX28_act_0 : cX28_act.data.toList.drop 0 = dktX28_act_0 := by decide +kernel
theorem dksX28_act_1 : cX28_act.data.toList.drop 22 = dktX28_act_1 := dk_seg dksX28_act_0 22 rfl rfl
theorem dksX28_act_2 : cX28_act.data.toList.drop 44 = dktX28_act_2 := dk_seg dksX28_act_1 22 rfl rfl
theorem dksX28_act_3 : cX28_act.data.toList.drop 68 = dktX28_act_3 := dk_seg dksX28_act_2 24 rfl rfl
theorem dksX28_act_4 : cX28_act.data.toList.drop 92 = dktX28_act_4 := dk_seg dksX28_act_3 24 rfl rfl
theorem dX28_act_0 : decode cX28_act 0 = .ok (.aload_n 0, 1) := dk_42 (dk_at dksX28_act_0 0 rfl rfl)
theorem dX28_act_1 : decode cX28_act 1 = .ok (.getfield 58, 3) := dk_180 0 58 (dk_at dksX28_act_0 1 rfl rfl)
theorem dX28_act_4 : decode cX28_act 4 = .ok (.bipush 10, 2) := dk_16 10 (dk_at dksX28_act_0 4 rfl rfl)
theorem dX28_act_6 : decode cX28_act 6 = .ok (.if_icmp .eq 41, 3) := dk_159 0 41 (dk_at dksX28_act_0 6 rfl rfl)
theorem dX28_act_9 : decode cX28_act 9 = .ok (.iload_n 1, 1) := dk_27 (dk_at dksX28_act_0 9 rfl rfl)
theorem dX28_act_10 : decode cX28_act 10 = .ok (.iconst (-1), 1) := dk_2 (dk_at dksX28_act_0 10 rfl rfl)
theorem dX28_act_11 : decode cX28_act 11 = .ok (.if_icmp .eq 10, 3) := dk_159 0 10 (dk_at dksX28_act_0 11 rfl rfl)
theorem dX28_act_14 : decode cX28_act 14 = .ok (.iload_n 1, 1) := dk_27 (dk_at dksX28_act_0 14 rfl rfl)
theorem dX28_act_15 : decode cX28_act 15 = .ok (.invokestatic 62, 3) := dk_184 0 62 (dk_at dksX28_act_0 15 rfl rfl)
theorem dX28_act_18 : decode cX28_act 18 = .ok (.ifCond .eq 29, 3) := dk_153 0 29 (dk_at dksX28_act_0 18 rfl rfl)
theorem dX28_act_21 : decode cX28_act 21 = .ok (.iload_n 2, 1) := dk_28 (dk_at dksX28_act_0 21 rfl rfl)
theorem dX28_act_22 : decode cX28_act 22 = .ok (.invokestatic 66, 3) := dk_184 0 66 (dk_at dksX28_act_1 0 rfl rfl)
theorem dX28_act_25 : decode cX28_act 25 = .ok (.ifCond .eq 22, 3) := dk_153 0 22 (dk_at dksX28_act_1 3 rfl rfl)
theorem dX28_act_28 : decode cX28_act 28 = .ok (.iload_n 3, 1) := dk_29 (dk_at dksX28_act_1 6 rfl rfl)
theorem dX28_act_29 : decode cX28_act 29 = .ok (.invokestatic 66, 3) := dk_184 0 66 (dk_at dksX28_act_1 7 rfl rfl)
theorem dX28_act_32 : decode cX28_act 32 = .ok (.ifCond .eq 15, 3) := dk_153 0 15 (dk_at dksX28_act_1 10 rfl rfl)
theorem dX28_act_35 : decode cX28_act 35 = .ok (.lload 4, 2) := dk_22 4 (dk_at dksX28_act_1 13 rfl rfl)
theorem dX28_act_37 : decode cX28_act 37 = .ok (.lconst 0, 1) := dk_9 (dk_at dksX28_act_1 15 rfl rfl)
theorem dX28_act_38 : decode cX28_act 38 = .ok (.ldc2_w 69, 3) := dk_20 0 69 (dk_at dksX28_act_1 16 rfl rfl)
theorem dX28_act_41 : decode cX28_act 41 = .ok (.invokestatic 71, 3) := dk_184 0 71 (dk_at dksX28_act_1 19 rfl rfl)
theorem dX28_act_44 : decode cX28_act 44 = .ok (.ifCond .ne 5, 3) := dk_154 0 5 (dk_at dksX28_act_2 0 rfl rfl)
theorem dX28_act_47 : decode cX28_act 47 = .ok (.iconst (-1), 1) := dk_2 (dk_at dksX28_act_2 3 rfl rfl)
theorem dX28_act_48 : decode cX28_act 48 = .ok (.ireturn, 1) := dk_172 (dk_at dksX28_act_2 4 rfl rfl)
theorem dX28_act_49 : decode cX28_act 49 = .ok (.aload_n 0, 1) := dk_42 (dk_at dksX28_act_2 5 rfl rfl)
theorem dX28_act_50 : decode cX28_act 50 = .ok (.getfield 9, 3) := dk_180 0 9 (dk_at dksX28_act_2 6 rfl rfl)
theorem dX28_act_53 : decode cX28_act 53 = .ok (.aload_n 0, 1) := dk_42 (dk_at dksX28_act_2 9 rfl rfl)
theorem dX28_act_54 : decode cX28_act 54 = .ok (.getfield 58, 3) := dk_180 0 58 (dk_at dksX28_act_2 10 rfl rfl)
theorem dX28_act_57 : decode cX28_act 57 = .ok (.aaload, 1) := dk_50 (dk_at dksX28_act_2 13 rfl rfl)
theorem dX28_act_58 : decode cX28_act 58 = .ok (.astore 6, 2) := dk_58 6 (dk_at dksX28_act_2 14 rfl rfl)
theorem dX28_act_60 : decode cX28_act 60 = .ok (.aload 6, 2) := dk_25 6 (dk_at dksX28_act_2 16 rfl rfl)
theorem dX28_act_62 : decode cX28_act 62 = .ok (.iload_n 1, 1) := dk_27 (dk_at dksX28_act_2 18 rfl rfl)
theorem dX28_act_63 : decode cX28_act 63 = .ok (.putfield 75, 3) := dk_181 0 75 (dk_at dksX28_act_2 19 rfl rfl)
theorem dX28_act_66 : decode cX28_act 66 = .ok (.aload 6, 2) := dk_25 6 (dk_at dksX28_act_2 22 rfl rfl)
theorem dX28_act_68 : decode cX28_act 68 = .ok (.iload_n 2, 1) := dk_28 (dk_at dksX28_act_3 0 rfl rfl)
theorem dX28_act_69 : decode cX28_act 69 = .ok (.putfield 78, 3) := dk_181 0 78 (dk_at dksX28_act_3 1 rfl rfl)
theorem dX28_act_72 : decode cX28_act 72 = .ok (.aload 6, 2) := dk_25 6 (dk_at dksX28_act_3 4 rfl rfl)
theorem dX28_act_74 : decode cX28_act 74 = .ok (.iload_n 3, 1) := dk_29 (dk_at dksX28_act_3 6 rfl rfl)
theorem dX28_act_75 : decode cX28_act 75 = .ok (.putfield 81, 3) := dk_181 0 81 (dk_at dksX28_act_3 7 rfl rfl)
theorem dX28_act_78 : decode cX28_act 78 = .ok (.aload 6, 2) := dk_25 6 (dk_at dksX28_act_3 10 rfl rfl)
theorem dX28_act_80 : decode cX28_act 80 = .ok (.lload 4, 2) := dk_22 4 (dk_at dksX28_act_3 12 rfl rfl)
theorem dX28_act_82 : decode cX28_act 82 = .ok (.l2i, 1) := dk_136 (dk_at dksX28_act_3 14 rfl rfl)
theorem dX28_act_83 : decode cX28_act 83 = .ok (.putfield 84, 3) := dk_181 0 84 (dk_at dksX28_act_3 15 rfl rfl)
theorem dX28_act_86 : decode cX28_act 86 = .ok (.aload_n 0, 1) := dk_42 (dk_at dksX28_act_3 18 rfl rfl)
theorem dX28_act_87 : decode cX28_act 87 = .ok (.iconst 0, 1) := dk_3 (dk_at dksX28_act_3 19 rfl rfl)
theorem dX28_act_88 : decode cX28_act 88 = .ok (.putfield 87, 3) := dk_181 0 87 (dk_at dksX28_act_3 20 rfl rfl)
theorem dX28_act_91 : decode cX28_act 91 = .ok (.aload_n 0, 1) := dk_42 (dk_at dksX28_act_3 23 rfl rfl)
theorem dX28_act_92 : decode cX28_act 92 = .ok (.dup, 1) := dk_89 (dk_at dksX28_act_4 0 rfl rfl)
theorem dX28_act_93 : decode cX28_act 93 = .ok (.getfield 58, 3) := dk_180 0 58 (dk_at dksX28_act_4 1 rfl rfl)
theorem dX28_act_96 : decode cX28_act 96 = .ok (.dup_x1, 1) := dk_90 (dk_at dksX28_act_4 4 rfl rfl)
theorem dX28_act_97 : decode cX28_act 97 = .ok (.iconst 1, 1) := dk_4 (dk_at dksX28_act_4 5 rfl rfl)
theorem dX28_act_98 : decode cX28_act 98 = .ok (.iadd, 1) := dk_96 (dk_at dksX28_act_4 6 rfl rfl)
theorem dX28_act_99 : decode cX28_act 99 = .ok (.putfield 58, 3) := dk_181 0 58 (dk_at dksX28_act_4 7 rfl rfl)
theorem dX28_act_102 : decode cX28_act 102 = .ok (.ireturn, 1) := dk_172 (dk_at dksX28_act_4 10 rfl rfl)
abbrev cX28_isPart : ByteArray := prog_2_method_3_code
def yX28_isPart : MethodName := ⟨RX28, "isPart", "(I)Z"⟩
def dkwX28_isPart_0 : List UInt8 := [26, 155, 0, 13, 26, 16, 12, 162, 0, 7, 4, 167, 0, 4, 3, 172]
abbrev dktX28_isPart_0 : List UInt8 := dkwX28_isPart_0 ++ []
theorem dksX28_isPart_0 : cX28_isPart.data.toList.drop 0 = dktX28_isPart_0 := by decide +kernel
theorem dX28_isPart_0 : decode cX28_isPart 0 = .ok (.iload_n 0, 1) := dk_26 (dk_at dksX28_isPart_0 0 rfl rfl)
theorem dX28_isPart_1 : decode cX28_isPart 1 = .ok (.ifCond .lt 13, 3) := dk_155 0 13 (dk_at dksX28_isPart_0 1 rfl rfl)
theorem dX28_isPart_4 : decode cX28_isPart 4 = .ok (.iload_n 0, 1) := dk_26 (dk_at dksX28_isPart_0 4 rfl rfl)
theorem dX28_isPart_5 : decode cX28_isPart 5 = .ok (.bipush 12, 2) := dk_16 12 (dk_at dksX28_isPart_0 5 rfl rfl)
theorem dX28_isPart_7 : decode cX28_isPart 7 = .ok (.if_icmp .ge 7, 3) := dk_162 0 7 (dk_at dksX28_isPart_0 7 rfl rfl)
theorem dX28_isPart_10 : decode cX28_isPart 10 = .ok (.iconst 1, 1) := dk_4 (dk_at dksX28_isPart_0 10 rfl rfl)
theorem dX28_isPart_11 : decode cX28_isPart 11 = .ok (.goto 4, 3) := dk_167 0 4 (dk_at dksX28_isPart_0 11 rfl rfl)
theorem dX28_isPart_14 : decode cX28_isPart 14 = .ok (.iconst 0, 1) := dk_3 (dk_at dksX28_isPart_0 14 rfl rfl)
theorem dX28_isPart_15 : decode cX28_isPart 15 = .ok (.ireturn, 1) := dk_172 (dk_at dksX28_isPart_0 15 rfl rfl)
abbrev cX28_isIn : ByteArray := prog_2_method_4_code
def yX28_isIn : MethodName := ⟨RX28, "isIn", "(JJJ)Z"⟩
def dkwX28_isIn_0 : List UInt8 := [30, 32, 148, 155, 0, 14, 30, 22, 4, 148, 157, 0, 7, 4, 167, 0, 4, 3, 172]
abbrev dktX28_isIn_0 : List UInt8 := dkwX28_isIn_0 ++ []
theorem dksX28_isIn_0 : cX28_isIn.data.toList.drop 0 = dktX28_isIn_0 := by decide +kernel
theorem dX28_isIn_0 : decode cX28_isIn 0 = .ok (.lload_n 0, 1) := dk_30 (dk_at dksX28_isIn_0 0 rfl rfl)
theorem dX28_isIn_1 : decode cX28_isIn 1 = .ok (.lload_n 2, 1) := dk_32 (dk_at dksX28_isIn_0 1 rfl rfl)
theorem dX28_isIn_2 : decode cX28_isIn 2 = .ok (.lcmp, 1) := dk_148 (dk_at dksX28_isIn_0 2 rfl rfl)
theorem dX28_isIn_3 : decode cX28_isIn 3 = .ok (.ifCond .lt 14, 3) := dk_155 0 14 (dk_at dksX28_isIn_0 3 rfl rfl)
theorem dX28_isIn_6 : decode cX28_isIn 6 = .ok (.lload_n 0, 1) := dk_30 (dk_at dksX28_isIn_0 6 rfl rfl)
theorem dX28_isIn_7 : decode cX28_isIn 7 = .ok (.lload 4, 2) := dk_22 4 (dk_at dksX28_isIn_0 7 rfl rfl)
theorem dX28_isIn_9 : decode cX28_isIn 9 = .ok (.lcmp, 1) := dk_148 (dk_at dksX28_isIn_0 9 rfl rfl)
theorem dX28_isIn_10 : decode cX28_isIn 10 = .ok (.ifCond .gt 7, 3) := dk_157 0 7 (dk_at dksX28_isIn_0 10 rfl rfl)
theorem dX28_isIn_13 : decode cX28_isIn 13 = .ok (.iconst 1, 1) := dk_4 (dk_at dksX28_isIn_0 13 rfl rfl)
theorem dX28_isIn_14 : decode cX28_isIn 14 = .ok (.goto 4, 3) := dk_167 0 4 (dk_at dksX28_isIn_0 14 rfl rfl)
theorem dX28_isIn_17 : decode cX28_isIn 17 = .ok (.iconst 0, 1) := dk_3 (dk_at dksX28_isIn_0 17 rfl rfl)
theorem dX28_isIn_18 : decode cX28_isIn 18 = .ok (.ireturn, 1) := dk_172 (dk_at dksX28_isIn_0 18 rfl rfl)
abbrev cX28_before : ByteArray := prog_2_method_6_code
def yX28_before : MethodName := ⟨RX28, "before", "(II)Z"⟩
def dkwX28_before_5 : List UInt8 := [181, 0, 87, 4, 172]
abbrev dktX28_before_5 : List UInt8 := dkwX28_before_5 ++ []
def dkwX28_before_4 : List UInt8 := [180, 0, 9, 21, 4, 50, 89, 180, 0, 94, 29, 128, 181, 0, 94, 132, 4, 1, 167, 255, 204, 42, 3]
abbrev dktX28_before_4 : List UInt8 := dkwX28_before_4 ++ dktX28_before_5
def dkwX28_before_3 : List UInt8 := [159, 0, 21, 42, 180, 0, 9, 21, 4, 50, 180, 0, 94, 28, 122, 4, 126, 4, 160, 0, 19, 42]
abbrev dktX28_before_3 : List UInt8 := dkwX28_before_3 ++ dktX28_before_4
def dkwX28_before_2 : List UInt8 := [180, 0, 94, 4, 27, 120, 128, 62, 3, 54, 4, 21, 4, 42, 180, 0, 58, 162, 0, 49, 21, 4, 28]
abbrev dktX28_before_2 : List UInt8 := dkwX28_before_2 ++ dktX28_before_3
def dkwX28_before_1 : List UInt8 := [180, 0, 9, 27, 50, 180, 0, 94, 28, 122, 4, 126, 4, 160, 0, 5, 3, 172, 42, 180, 0, 9, 27, 50]
abbrev dktX28_before_1 : List UInt8 := dkwX28_before_1 ++ dktX28_before_2
def dkwX28_before_0 : List UInt8 := [42, 27, 182, 0, 91, 153, 0, 33, 42, 28, 182, 0, 91, 153, 0, 25, 27, 28, 159, 0, 20, 42]
abbrev dktX28_before_0 : List UInt8 := dkwX28_before_0 ++ dktX28_before_1
theorem dksX28_before_0 : cX28_before.data.toList.drop 0 = dktX28_before_0 := by decide +kernel
theorem dksX28_before_1 : cX28_before.data.toList.drop 22 = dktX28_before_1 := dk_seg dksX28_before_0 22 rfl rfl
theorem dksX28_before_2 : cX28_before.data.toList.drop 46 = dktX28_before_2 := dk_seg dksX28_before_1 24 rfl rfl
theorem dksX28_before_3 : cX28_before.data.toList.drop 69 = dktX28_before_3 := dk_seg dksX28_before_2 23 rfl rfl
theorem dksX28_before_4 : cX28_before.data.toList.drop 91 = dktX28_before_4 := dk_seg dksX28_before_3 22 rfl rfl
theorem dksX28_before_5 : cX28_before.data.toList.drop 114 = dktX28_before_5 := dk_seg dksX28_before_4 23 rfl rfl
theorem dX28_before_0 : decode cX28_before 0 = .ok (.aload_n 0, 1) := dk_42 (dk_at dksX28_before_0 0 rfl rfl)
theorem dX28_before_1 : decode cX28_before 1 = .ok (.iload_n 1, 1) := dk_27 (dk_at dksX28_before_0 1 rfl rfl)
theorem dX28_before_2 : decode cX28_before 2 = .ok (.invokevirtual 91, 3) := dk_182 0 91 (dk_at dksX28_before_0 2 rfl rfl)
theorem dX28_before_5 : decode cX28_before 5 = .ok (.ifCond .eq 33, 3) := dk_153 0 33 (dk_at dksX28_before_0 5 rfl rfl)
theorem dX28_before_8 : decode cX28_before 8 = .ok (.aload_n 0, 1) := dk_42 (dk_at dksX28_before_0 8 rfl rfl)
theorem dX28_before_9 : decode cX28_before 9 = .ok (.iload_n 2, 1) := dk_28 (dk_at dksX28_before_0 9 rfl rfl)
theorem dX28_before_10 : decode cX28_before 10 = .ok (.invokevirtual 91, 3) := dk_182 0 91 (dk_at dksX28_before_0 10 rfl rfl)
theorem dX28_before_13 : decode cX28_before 13 = .ok (.ifCond .eq 25, 3) := dk_153 0 25 (dk_at dksX28_before_0 13 rfl rfl)
theorem dX28_before_16 : decode cX28_before 16 = .ok (.iload_n 1, 1) := dk_27 (dk_at dksX28_before_0 16 rfl rfl)
theorem dX28_before_17 : decode cX28_before 17 = .ok (.iload_n 2, 1) := dk_28 (dk_at dksX28_before_0 17 rfl rfl)
theorem dX28_before_18 : decode cX28_before 18 = .ok (.if_icmp .eq 20, 3) := dk_159 0 20 (dk_at dksX28_before_0 18 rfl rfl)
theorem dX28_before_21 : decode cX28_before 21 = .ok (.aload_n 0, 1) := dk_42 (dk_at dksX28_before_0 21 rfl rfl)
theorem dX28_before_22 : decode cX28_before 22 = .ok (.getfield 9, 3) := dk_180 0 9 (dk_at dksX28_before_1 0 rfl rfl)
theorem dX28_before_25 : decode cX28_before 25 = .ok (.iload_n 1, 1) := dk_27 (dk_at dksX28_before_1 3 rfl rfl)
theorem dX28_before_26 : decode cX28_before 26 = .ok (.aaload, 1) := dk_50 (dk_at dksX28_before_1 4 rfl rfl)
theorem dX28_before_27 : decode cX28_before 27 = .ok (.getfield 94, 3) := dk_180 0 94 (dk_at dksX28_before_1 5 rfl rfl)
theorem dX28_before_30 : decode cX28_before 30 = .ok (.iload_n 2, 1) := dk_28 (dk_at dksX28_before_1 8 rfl rfl)
theorem dX28_before_31 : decode cX28_before 31 = .ok (.ishr, 1) := dk_122 (dk_at dksX28_before_1 9 rfl rfl)
theorem dX28_before_32 : decode cX28_before 32 = .ok (.iconst 1, 1) := dk_4 (dk_at dksX28_before_1 10 rfl rfl)
theorem dX28_before_33 : decode cX28_before 33 = .ok (.iand, 1) := dk_126 (dk_at dksX28_before_1 11 rfl rfl)
theorem dX28_before_34 : decode cX28_before 34 = .ok (.iconst 1, 1) := dk_4 (dk_at dksX28_before_1 12 rfl rfl)
theorem dX28_before_35 : decode cX28_before 35 = .ok (.if_icmp .ne 5, 3) := dk_160 0 5 (dk_at dksX28_before_1 13 rfl rfl)
theorem dX28_before_38 : decode cX28_before 38 = .ok (.iconst 0, 1) := dk_3 (dk_at dksX28_before_1 16 rfl rfl)
theorem dX28_before_39 : decode cX28_before 39 = .ok (.ireturn, 1) := dk_172 (dk_at dksX28_before_1 17 rfl rfl)
theorem dX28_before_40 : decode cX28_before 40 = .ok (.aload_n 0, 1) := dk_42 (dk_at dksX28_before_1 18 rfl rfl)
theorem dX28_before_41 : decode cX28_before 41 = .ok (.getfield 9, 3) := dk_180 0 9 (dk_at dksX28_before_1 19 rfl rfl)
theorem dX28_before_44 : decode cX28_before 44 = .ok (.iload_n 1, 1) := dk_27 (dk_at dksX28_before_1 22 rfl rfl)
theorem dX28_before_45 : decode cX28_before 45 = .ok (.aaload, 1) := dk_50 (dk_at dksX28_before_1 23 rfl rfl)
theorem dX28_before_46 : decode cX28_before 46 = .ok (.getfield 94, 3) := dk_180 0 94 (dk_at dksX28_before_2 0 rfl rfl)
theorem dX28_before_49 : decode cX28_before 49 = .ok (.iconst 1, 1) := dk_4 (dk_at dksX28_before_2 3 rfl rfl)
theorem dX28_before_50 : decode cX28_before 50 = .ok (.iload_n 1, 1) := dk_27 (dk_at dksX28_before_2 4 rfl rfl)
theorem dX28_before_51 : decode cX28_before 51 = .ok (.ishl, 1) := dk_120 (dk_at dksX28_before_2 5 rfl rfl)
theorem dX28_before_52 : decode cX28_before 52 = .ok (.ior, 1) := dk_128 (dk_at dksX28_before_2 6 rfl rfl)
theorem dX28_before_53 : decode cX28_before 53 = .ok (.istore_n 3, 1) := dk_62 (dk_at dksX28_before_2 7 rfl rfl)
theorem dX28_before_54 : decode cX28_before 54 = .ok (.iconst 0, 1) := dk_3 (dk_at dksX28_before_2 8 rfl rfl)
theorem dX28_before_55 : decode cX28_before 55 = .ok (.istore 4, 2) := dk_54 4 (dk_at dksX28_before_2 9 rfl rfl)
theorem dX28_before_57 : decode cX28_before 57 = .ok (.iload 4, 2) := dk_21 4 (dk_at dksX28_before_2 11 rfl rfl)
theorem dX28_before_59 : decode cX28_before 59 = .ok (.aload_n 0, 1) := dk_42 (dk_at dksX28_before_2 13 rfl rfl)
theorem dX28_before_60 : decode cX28_before 60 = .ok (.getfield 58, 3) := dk_180 0 58 (dk_at dksX28_before_2 14 rfl rfl)
theorem dX28_before_63 : decode cX28_before 63 = .ok (.if_icmp .ge 49, 3) := dk_162 0 49 (dk_at dksX28_before_2 17 rfl rfl)
theorem dX28_before_66 : decode cX28_before 66 = .ok (.iload 4, 2) := dk_21 4 (dk_at dksX28_before_2 20 rfl rfl)
theorem dX28_before_68 : decode cX28_before 68 = .ok (.iload_n 2, 1) := dk_28 (dk_at dksX28_before_2 22 rfl rfl)
theorem dX28_before_69 : decode cX28_before 69 = .ok (.if_icmp .eq 21, 3) := dk_159 0 21 (dk_at dksX28_before_3 0 rfl rfl)
theorem dX28_before_72 : decode cX28_before 72 = .ok (.aload_n 0, 1) := dk_42 (dk_at dksX28_before_3 3 rfl rfl)
theorem dX28_before_73 : decode cX28_before 73 = .ok (.getfield 9, 3) := dk_180 0 9 (dk_at dksX28_before_3 4 rfl rfl)
theorem dX28_before_76 : decode cX28_before 76 = .ok (.iload 4, 2) := dk_21 4 (dk_at dksX28_before_3 7 rfl rfl)
theorem dX28_before_78 : decode cX28_before 78 = .ok (.aaload, 1) := dk_50 (dk_at dksX28_before_3 9 rfl rfl)
theorem dX28_before_79 : decode cX28_before 79 = .ok (.getfield 94, 3) := dk_180 0 94 (dk_at dksX28_before_3 10 rfl rfl)
theorem dX28_before_82 : decode cX28_before 82 = .ok (.iload_n 2, 1) := dk_28 (dk_at dksX28_before_3 13 rfl rfl)
theorem dX28_before_83 : decode cX28_before 83 = .ok (.ishr, 1) := dk_122 (dk_at dksX28_before_3 14 rfl rfl)
theorem dX28_before_84 : decode cX28_before 84 = .ok (.iconst 1, 1) := dk_4 (dk_at dksX28_before_3 15 rfl rfl)
theorem dX28_before_85 : decode cX28_before 85 = .ok (.iand, 1) := dk_126 (dk_at dksX28_before_3 16 rfl rfl)
theorem dX28_before_86 : decode cX28_before 86 = .ok (.iconst 1, 1) := dk_4 (dk_at dksX28_before_3 17 rfl rfl)
theorem dX28_before_87 : decode cX28_before 87 = .ok (.if_icmp .ne 19, 3) := dk_160 0 19 (dk_at dksX28_before_3 18 rfl rfl)
theorem dX28_before_90 : decode cX28_before 90 = .ok (.aload_n 0, 1) := dk_42 (dk_at dksX28_before_3 21 rfl rfl)
theorem dX28_before_91 : decode cX28_before 91 = .ok (.getfield 9, 3) := dk_180 0 9 (dk_at dksX28_before_4 0 rfl rfl)
theorem dX28_before_94 : decode cX28_before 94 = .ok (.iload 4, 2) := dk_21 4 (dk_at dksX28_before_4 3 rfl rfl)
theorem dX28_before_96 : decode cX28_before 96 = .ok (.aaload, 1) := dk_50 (dk_at dksX28_before_4 5 rfl rfl)
theorem dX28_before_97 : decode cX28_before 97 = .ok (.dup, 1) := dk_89 (dk_at dksX28_before_4 6 rfl rfl)
theorem dX28_before_98 : decode cX28_before 98 = .ok (.getfield 94, 3) := dk_180 0 94 (dk_at dksX28_before_4 7 rfl rfl)
theorem dX28_before_101 : decode cX28_before 101 = .ok (.iload_n 3, 1) := dk_29 (dk_at dksX28_before_4 10 rfl rfl)
theorem dX28_before_102 : decode cX28_before 102 = .ok (.ior, 1) := dk_128 (dk_at dksX28_before_4 11 rfl rfl)
theorem dX28_before_103 : decode cX28_before 103 = .ok (.putfield 94, 3) := dk_181 0 94 (dk_at dksX28_before_4 12 rfl rfl)
theorem dX28_before_106 : decode cX28_before 106 = .ok (.iinc 4 1, 3) := dk_132 4 1 (dk_at dksX28_before_4 15 rfl rfl)
theorem dX28_before_109 : decode cX28_before 109 = .ok (.goto (-52), 3) := dk_167 255 204 (dk_at dksX28_before_4 18 rfl rfl)
theorem dX28_before_112 : decode cX28_before 112 = .ok (.aload_n 0, 1) := dk_42 (dk_at dksX28_before_4 21 rfl rfl)
theorem dX28_before_113 : decode cX28_before 113 = .ok (.iconst 0, 1) := dk_3 (dk_at dksX28_before_4 22 rfl rfl)
theorem dX28_before_114 : decode cX28_before 114 = .ok (.putfield 87, 3) := dk_181 0 87 (dk_at dksX28_before_5 0 rfl rfl)
theorem dX28_before_117 : decode cX28_before 117 = .ok (.iconst 1, 1) := dk_4 (dk_at dksX28_before_5 3 rfl rfl)
theorem dX28_before_118 : decode cX28_before 118 = .ok (.ireturn, 1) := dk_172 (dk_at dksX28_before_5 4 rfl rfl)
abbrev cX28_isAct : ByteArray := prog_2_method_2_code
def yX28_isAct : MethodName := ⟨RX28, "isAct", "(I)Z"⟩
def dkwX28_isAct_0 : List UInt8 := [27, 155, 0, 15, 27, 42, 180, 0, 58, 162, 0, 7, 4, 167, 0, 4, 3, 172]
abbrev dktX28_isAct_0 : List UInt8 := dkwX28_isAct_0 ++ []
theorem dksX28_isAct_0 : cX28_isAct.data.toList.drop 0 = dktX28_isAct_0 := by decide +kernel
theorem dX28_isAct_0 : decode cX28_isAct 0 = .ok (.iload_n 1, 1) := dk_27 (dk_at dksX28_isAct_0 0 rfl rfl)
theorem dX28_isAct_1 : decode cX28_isAct 1 = .ok (.ifCond .lt 15, 3) := dk_155 0 15 (dk_at dksX28_isAct_0 1 rfl rfl)
theorem dX28_isAct_4 : decode cX28_isAct 4 = .ok (.iload_n 1, 1) := dk_27 (dk_at dksX28_isAct_0 4 rfl rfl)
theorem dX28_isAct_5 : decode cX28_isAct 5 = .ok (.aload_n 0, 1) := dk_42 (dk_at dksX28_isAct_0 5 rfl rfl)
theorem dX28_isAct_6 : decode cX28_isAct 6 = .ok (.getfield 58, 3) := dk_180 0 58 (dk_at dksX28_isAct_0 6 rfl rfl)
theorem dX28_isAct_9 : decode cX28_isAct 9 = .ok (.if_icmp .ge 7, 3) := dk_162 0 7 (dk_at dksX28_isAct_0 9 rfl rfl)
theorem dX28_isAct_12 : decode cX28_isAct 12 = .ok (.iconst 1, 1) := dk_4 (dk_at dksX28_isAct_0 12 rfl rfl)
theorem dX28_isAct_13 : decode cX28_isAct 13 = .ok (.goto 4, 3) := dk_167 0 4 (dk_at dksX28_isAct_0 13 rfl rfl)
theorem dX28_isAct_16 : decode cX28_isAct 16 = .ok (.iconst 0, 1) := dk_3 (dk_at dksX28_isAct_0 16 rfl rfl)
theorem dX28_isAct_17 : decode cX28_isAct 17 = .ok (.ireturn, 1) := dk_172 (dk_at dksX28_isAct_0 17 rfl rfl)
abbrev cX28_change : ByteArray := prog_2_method_7_code
def yX28_change : MethodName := ⟨RX28, "change", "(IIJ)Z"⟩
def dkwX28_change_1 : List UInt8 := [167, 0, 4, 3, 126, 181, 0, 87, 21, 5, 172]
abbrev dktX28_change_1 : List UInt8 := dkwX28_change_1 ++ []
def dkwX28_change_0 : List UInt8 := [42, 180, 0, 18, 27, 28, 33, 182, 0, 97, 54, 5, 42, 89, 180, 0, 87, 21, 5, 154, 0, 7, 4]
abbrev dktX28_change_0 : List UInt8 := dkwX28_change_0 ++ dktX28_change_1
theorem dksX28_change_0 : cX28_change.data.toList.drop 0 = dktX28_change_0 := by decide +kernel
theorem dksX28_change_1 : cX28_change.data.toList.drop 23 = dktX28_change_1 := dk_seg dksX28_change_0 23 rfl rfl
theorem dX28_change_0 : decode cX28_change 0 = .ok (.aload_n 0, 1) := dk_42 (dk_at dksX28_change_0 0 rfl rfl)
theorem dX28_change_1 : decode cX28_change 1 = .ok (.getfield 18, 3) := dk_180 0 18 (dk_at dksX28_change_0 1 rfl rfl)
theorem dX28_change_4 : decode cX28_change 4 = .ok (.iload_n 1, 1) := dk_27 (dk_at dksX28_change_0 4 rfl rfl)
theorem dX28_change_5 : decode cX28_change 5 = .ok (.iload_n 2, 1) := dk_28 (dk_at dksX28_change_0 5 rfl rfl)
theorem dX28_change_6 : decode cX28_change 6 = .ok (.lload_n 3, 1) := dk_33 (dk_at dksX28_change_0 6 rfl rfl)
theorem dX28_change_7 : decode cX28_change 7 = .ok (.invokevirtual 97, 3) := dk_182 0 97 (dk_at dksX28_change_0 7 rfl rfl)
theorem dX28_change_10 : decode cX28_change 10 = .ok (.istore 5, 2) := dk_54 5 (dk_at dksX28_change_0 10 rfl rfl)
theorem dX28_change_12 : decode cX28_change 12 = .ok (.aload_n 0, 1) := dk_42 (dk_at dksX28_change_0 12 rfl rfl)
theorem dX28_change_13 : decode cX28_change 13 = .ok (.dup, 1) := dk_89 (dk_at dksX28_change_0 13 rfl rfl)
theorem dX28_change_14 : decode cX28_change 14 = .ok (.getfield 87, 3) := dk_180 0 87 (dk_at dksX28_change_0 14 rfl rfl)
theorem dX28_change_17 : decode cX28_change 17 = .ok (.iload 5, 2) := dk_21 5 (dk_at dksX28_change_0 17 rfl rfl)
theorem dX28_change_19 : decode cX28_change 19 = .ok (.ifCond .ne 7, 3) := dk_154 0 7 (dk_at dksX28_change_0 19 rfl rfl)
theorem dX28_change_22 : decode cX28_change 22 = .ok (.iconst 1, 1) := dk_4 (dk_at dksX28_change_0 22 rfl rfl)
theorem dX28_change_23 : decode cX28_change 23 = .ok (.goto 4, 3) := dk_167 0 4 (dk_at dksX28_change_1 0 rfl rfl)
theorem dX28_change_26 : decode cX28_change 26 = .ok (.iconst 0, 1) := dk_3 (dk_at dksX28_change_1 3 rfl rfl)
theorem dX28_change_27 : decode cX28_change 27 = .ok (.iand, 1) := dk_126 (dk_at dksX28_change_1 4 rfl rfl)
theorem dX28_change_28 : decode cX28_change 28 = .ok (.putfield 87, 3) := dk_181 0 87 (dk_at dksX28_change_1 5 rfl rfl)
theorem dX28_change_31 : decode cX28_change 31 = .ok (.iload 5, 2) := dk_21 5 (dk_at dksX28_change_1 8 rfl rfl)
theorem dX28_change_33 : decode cX28_change 33 = .ok (.ireturn, 1) := dk_172 (dk_at dksX28_change_1 10 rfl rfl)
abbrev cX28_turn : ByteArray := prog_2_method_8_code
def yX28_turn : MethodName := ⟨RX28, "turn", "(IIJ)Z"⟩
def dkwX28_turn_1 : List UInt8 := [167, 0, 4, 3, 126, 181, 0, 87, 21, 5, 172]
abbrev dktX28_turn_1 : List UInt8 := dkwX28_turn_1 ++ []
def dkwX28_turn_0 : List UInt8 := [42, 180, 0, 22, 27, 28, 33, 182, 0, 97, 54, 5, 42, 89, 180, 0, 87, 21, 5, 154, 0, 7, 4]
abbrev dktX28_turn_0 : List UInt8 := dkwX28_turn_0 ++ dktX28_turn_1
theorem dksX28_turn_0 : cX28_turn.data.toList.drop 0 = dktX28_turn_0 := by decide +kernel
theorem dksX28_turn_1 : cX28_turn.data.toList.drop 23 = dktX28_turn_1 := dk_seg dksX28_turn_0 23 rfl rfl
theorem dX28_turn_0 : decode cX28_turn 0 = .ok (.aload_n 0, 1) := dk_42 (dk_at dksX28_turn_0 0 rfl rfl)
theorem dX28_turn_1 : decode cX28_turn 1 = .ok (.getfield 22, 3) := dk_180 0 22 (dk_at dksX28_turn_0 1 rfl rfl)
theorem dX28_turn_4 : decode cX28_turn 4 = .ok (.iload_n 1, 1) := dk_27 (dk_at dksX28_turn_0 4 rfl rfl)
theorem dX28_turn_5 : decode cX28_turn 5 = .ok (.iload_n 2, 1) := dk_28 (dk_at dksX28_turn_0 5 rfl rfl)
theorem dX28_turn_6 : decode cX28_turn 6 = .ok (.lload_n 3, 1) := dk_33 (dk_at dksX28_turn_0 6 rfl rfl)
theorem dX28_turn_7 : decode cX28_turn 7 = .ok (.invokevirtual 97, 3) := dk_182 0 97 (dk_at dksX28_turn_0 7 rfl rfl)
theorem dX28_turn_10 : decode cX28_turn 10 = .ok (.istore 5, 2) := dk_54 5 (dk_at dksX28_turn_0 10 rfl rfl)
theorem dX28_turn_12 : decode cX28_turn 12 = .ok (.aload_n 0, 1) := dk_42 (dk_at dksX28_turn_0 12 rfl rfl)
theorem dX28_turn_13 : decode cX28_turn 13 = .ok (.dup, 1) := dk_89 (dk_at dksX28_turn_0 13 rfl rfl)
theorem dX28_turn_14 : decode cX28_turn 14 = .ok (.getfield 87, 3) := dk_180 0 87 (dk_at dksX28_turn_0 14 rfl rfl)
theorem dX28_turn_17 : decode cX28_turn 17 = .ok (.iload 5, 2) := dk_21 5 (dk_at dksX28_turn_0 17 rfl rfl)
theorem dX28_turn_19 : decode cX28_turn 19 = .ok (.ifCond .ne 7, 3) := dk_154 0 7 (dk_at dksX28_turn_0 19 rfl rfl)
theorem dX28_turn_22 : decode cX28_turn 22 = .ok (.iconst 1, 1) := dk_4 (dk_at dksX28_turn_0 22 rfl rfl)
theorem dX28_turn_23 : decode cX28_turn 23 = .ok (.goto 4, 3) := dk_167 0 4 (dk_at dksX28_turn_1 0 rfl rfl)
theorem dX28_turn_26 : decode cX28_turn 26 = .ok (.iconst 0, 1) := dk_3 (dk_at dksX28_turn_1 3 rfl rfl)
theorem dX28_turn_27 : decode cX28_turn 27 = .ok (.iand, 1) := dk_126 (dk_at dksX28_turn_1 4 rfl rfl)
theorem dX28_turn_28 : decode cX28_turn 28 = .ok (.putfield 87, 3) := dk_181 0 87 (dk_at dksX28_turn_1 5 rfl rfl)
theorem dX28_turn_31 : decode cX28_turn 31 = .ok (.iload 5, 2) := dk_21 5 (dk_at dksX28_turn_1 8 rfl rfl)
theorem dX28_turn_33 : decode cX28_turn 33 = .ok (.ireturn, 1) := dk_172 (dk_at dksX28_turn_1 10 rfl rfl)
abbrev cX28_worth : ByteArray := prog_2_method_9_code
def yX28_worth : MethodName := ⟨RX28, "worth", "(IJ)Z"⟩
def dkwX28_worth_1 : List UInt8 := [180, 0, 25, 27, 32, 136, 79, 42, 3, 181, 0, 87, 4, 172]
abbrev dktX28_worth_1 : List UInt8 := dkwX28_worth_1 ++ []
def dkwX28_worth_0 : List UInt8 := [27, 184, 0, 62, 153, 0, 16, 32, 20, 0, 101, 20, 0, 69, 184, 0, 71, 154, 0, 5, 3, 172, 42]
abbrev dktX28_worth_0 : List UInt8 := dkwX28_worth_0 ++ dktX28_worth_1
theorem dksX28_worth_0 : cX28_worth.data.toList.drop 0 = dktX28_worth_0 := by decide +kernel
theorem dksX28_worth_1 : cX28_worth.data.toList.drop 23 = dktX28_worth_1 := dk_seg dksX28_worth_0 23 rfl rfl
theorem dX28_worth_0 : decode cX28_worth 0 = .ok (.iload_n 1, 1) := dk_27 (dk_at dksX28_worth_0 0 rfl rfl)
theorem dX28_worth_1 : decode cX28_worth 1 = .ok (.invokestatic 62, 3) := dk_184 0 62 (dk_at dksX28_worth_0 1 rfl rfl)
theorem dX28_worth_4 : decode cX28_worth 4 = .ok (.ifCond .eq 16, 3) := dk_153 0 16 (dk_at dksX28_worth_0 4 rfl rfl)
theorem dX28_worth_7 : decode cX28_worth 7 = .ok (.lload_n 2, 1) := dk_32 (dk_at dksX28_worth_0 7 rfl rfl)
theorem dX28_worth_8 : decode cX28_worth 8 = .ok (.ldc2_w 101, 3) := dk_20 0 101 (dk_at dksX28_worth_0 8 rfl rfl)
theorem dX28_worth_11 : decode cX28_worth 11 = .ok (.ldc2_w 69, 3) := dk_20 0 69 (dk_at dksX28_worth_0 11 rfl rfl)
theorem dX28_worth_14 : decode cX28_worth 14 = .ok (.invokestatic 71, 3) := dk_184 0 71 (dk_at dksX28_worth_0 14 rfl rfl)
theorem dX28_worth_17 : decode cX28_worth 17 = .ok (.ifCond .ne 5, 3) := dk_154 0 5 (dk_at dksX28_worth_0 17 rfl rfl)
theorem dX28_worth_20 : decode cX28_worth 20 = .ok (.iconst 0, 1) := dk_3 (dk_at dksX28_worth_0 20 rfl rfl)
theorem dX28_worth_21 : decode cX28_worth 21 = .ok (.ireturn, 1) := dk_172 (dk_at dksX28_worth_0 21 rfl rfl)
theorem dX28_worth_22 : decode cX28_worth 22 = .ok (.aload_n 0, 1) := dk_42 (dk_at dksX28_worth_0 22 rfl rfl)
theorem dX28_worth_23 : decode cX28_worth 23 = .ok (.getfield 25, 3) := dk_180 0 25 (dk_at dksX28_worth_1 0 rfl rfl)
theorem dX28_worth_26 : decode cX28_worth 26 = .ok (.iload_n 1, 1) := dk_27 (dk_at dksX28_worth_1 3 rfl rfl)
theorem dX28_worth_27 : decode cX28_worth 27 = .ok (.lload_n 2, 1) := dk_32 (dk_at dksX28_worth_1 4 rfl rfl)
theorem dX28_worth_28 : decode cX28_worth 28 = .ok (.l2i, 1) := dk_136 (dk_at dksX28_worth_1 5 rfl rfl)
theorem dX28_worth_29 : decode cX28_worth 29 = .ok (.iastore, 1) := dk_79 (dk_at dksX28_worth_1 6 rfl rfl)
theorem dX28_worth_30 : decode cX28_worth 30 = .ok (.aload_n 0, 1) := dk_42 (dk_at dksX28_worth_1 7 rfl rfl)
theorem dX28_worth_31 : decode cX28_worth 31 = .ok (.iconst 0, 1) := dk_3 (dk_at dksX28_worth_1 8 rfl rfl)
theorem dX28_worth_32 : decode cX28_worth 32 = .ok (.putfield 87, 3) := dk_181 0 87 (dk_at dksX28_worth_1 9 rfl rfl)
theorem dX28_worth_35 : decode cX28_worth 35 = .ok (.iconst 1, 1) := dk_4 (dk_at dksX28_worth_1 12 rfl rfl)
theorem dX28_worth_36 : decode cX28_worth 36 = .ok (.ireturn, 1) := dk_172 (dk_at dksX28_worth_1 13 rfl rfl)
abbrev cX28_rest : ByteArray := prog_2_method_11_code
def yX28_rest : MethodName := ⟨RX28, "rest", "(JJ)Z"⟩
def dkwX28_rest_3 : List UInt8 := [21, 5, 31, 136, 79, 42, 180, 0, 35, 21, 5, 33, 136, 79, 42, 3, 181, 0, 87, 4, 172]
abbrev dktX28_rest_3 : List UInt8 := dkwX28_rest_3 ++ []
def dkwX28_rest_2 : List UInt8 := [3, 172, 21, 5, 156, 0, 16, 42, 89, 180, 0, 103, 90, 4, 96, 181, 0, 103, 54, 5, 42, 180, 0, 32]
abbrev dktX28_rest_2 : List UInt8 := dkwX28_rest_2 ++ dktX28_rest_3
def dkwX28_rest_1 : List UInt8 := [3, 172, 42, 31, 136, 182, 0, 108, 54, 5, 21, 5, 156, 0, 14, 42, 180, 0, 103, 16, 16, 160, 0, 5]
abbrev dktX28_rest_1 : List UInt8 := dkwX28_rest_1 ++ dktX28_rest_2
def dkwX28_rest_0 : List UInt8 := [31, 9, 20, 0, 106, 184, 0, 71, 153, 0, 16, 33, 20, 0, 101, 20, 0, 69, 184, 0, 71, 154, 0, 5]
abbrev dktX28_rest_0 : List UInt8 := dkwX28_rest_0 ++ dktX28_rest_1
theorem dksX28_rest_0 : cX28_rest.data.toList.drop 0 = dktX28_rest_0 := by decide +kernel
theorem dksX28_rest_1 : cX28_rest.data.toList.drop 24 = dktX28_rest_1 := dk_seg dksX28_rest_0 24 rfl rfl
theorem dksX28_rest_2 : cX28_rest.data.toList.drop 48 = dktX28_rest_2 := dk_seg dksX28_rest_1 24 rfl rfl
theorem dksX28_rest_3 : cX28_rest.data.toList.drop 72 = dktX28_rest_3 := dk_seg dksX28_rest_2 24 rfl rfl
theorem dX28_rest_0 : decode cX28_rest 0 = .ok (.lload_n 1, 1) := dk_31 (dk_at dksX28_rest_0 0 rfl rfl)
theorem dX28_rest_1 : decode cX28_rest 1 = .ok (.lconst 0, 1) := dk_9 (dk_at dksX28_rest_0 1 rfl rfl)
theorem dX28_rest_2 : decode cX28_rest 2 = .ok (.ldc2_w 106, 3) := dk_20 0 106 (dk_at dksX28_rest_0 2 rfl rfl)
theorem dX28_rest_5 : decode cX28_rest 5 = .ok (.invokestatic 71, 3) := dk_184 0 71 (dk_at dksX28_rest_0 5 rfl rfl)
theorem dX28_rest_8 : decode cX28_rest 8 = .ok (.ifCond .eq 16, 3) := dk_153 0 16 (dk_at dksX28_rest_0 8 rfl rfl)
theorem dX28_rest_11 : decode cX28_rest 11 = .ok (.lload_n 3, 1) := dk_33 (dk_at dksX28_rest_0 11 rfl rfl)
theorem dX28_rest_12 : decode cX28_rest 12 = .ok (.ldc2_w 101, 3) := dk_20 0 101 (dk_at dksX28_rest_0 12 rfl rfl)
theorem dX28_rest_15 : decode cX28_rest 15 = .ok (.ldc2_w 69, 3) := dk_20 0 69 (dk_at dksX28_rest_0 15 rfl rfl)
theorem dX28_rest_18 : decode cX28_rest 18 = .ok (.invokestatic 71, 3) := dk_184 0 71 (dk_at dksX28_rest_0 18 rfl rfl)
theorem dX28_rest_21 : decode cX28_rest 21 = .ok (.ifCond .ne 5, 3) := dk_154 0 5 (dk_at dksX28_rest_0 21 rfl rfl)
theorem dX28_rest_24 : decode cX28_rest 24 = .ok (.iconst 0, 1) := dk_3 (dk_at dksX28_rest_1 0 rfl rfl)
theorem dX28_rest_25 : decode cX28_rest 25 = .ok (.ireturn, 1) := dk_172 (dk_at dksX28_rest_1 1 rfl rfl)
theorem dX28_rest_26 : decode cX28_rest 26 = .ok (.aload_n 0, 1) := dk_42 (dk_at dksX28_rest_1 2 rfl rfl)
theorem dX28_rest_27 : decode cX28_rest 27 = .ok (.lload_n 1, 1) := dk_31 (dk_at dksX28_rest_1 3 rfl rfl)
theorem dX28_rest_28 : decode cX28_rest 28 = .ok (.l2i, 1) := dk_136 (dk_at dksX28_rest_1 4 rfl rfl)
theorem dX28_rest_29 : decode cX28_rest 29 = .ok (.invokevirtual 108, 3) := dk_182 0 108 (dk_at dksX28_rest_1 5 rfl rfl)
theorem dX28_rest_32 : decode cX28_rest 32 = .ok (.istore 5, 2) := dk_54 5 (dk_at dksX28_rest_1 8 rfl rfl)
theorem dX28_rest_34 : decode cX28_rest 34 = .ok (.iload 5, 2) := dk_21 5 (dk_at dksX28_rest_1 10 rfl rfl)
theorem dX28_rest_36 : decode cX28_rest 36 = .ok (.ifCond .ge 14, 3) := dk_156 0 14 (dk_at dksX28_rest_1 12 rfl rfl)
theorem dX28_rest_39 : decode cX28_rest 39 = .ok (.aload_n 0, 1) := dk_42 (dk_at dksX28_rest_1 15 rfl rfl)
theorem dX28_rest_40 : decode cX28_rest 40 = .ok (.getfield 103, 3) := dk_180 0 103 (dk_at dksX28_rest_1 16 rfl rfl)
theorem dX28_rest_43 : decode cX28_rest 43 = .ok (.bipush 16, 2) := dk_16 16 (dk_at dksX28_rest_1 19 rfl rfl)
theorem dX28_rest_45 : decode cX28_rest 45 = .ok (.if_icmp .ne 5, 3) := dk_160 0 5 (dk_at dksX28_rest_1 21 rfl rfl)
theorem dX28_rest_48 : decode cX28_rest 48 = .ok (.iconst 0, 1) := dk_3 (dk_at dksX28_rest_2 0 rfl rfl)
theorem dX28_rest_49 : decode cX28_rest 49 = .ok (.ireturn, 1) := dk_172 (dk_at dksX28_rest_2 1 rfl rfl)
theorem dX28_rest_50 : decode cX28_rest 50 = .ok (.iload 5, 2) := dk_21 5 (dk_at dksX28_rest_2 2 rfl rfl)
theorem dX28_rest_52 : decode cX28_rest 52 = .ok (.ifCond .ge 16, 3) := dk_156 0 16 (dk_at dksX28_rest_2 4 rfl rfl)
theorem dX28_rest_55 : decode cX28_rest 55 = .ok (.aload_n 0, 1) := dk_42 (dk_at dksX28_rest_2 7 rfl rfl)
theorem dX28_rest_56 : decode cX28_rest 56 = .ok (.dup, 1) := dk_89 (dk_at dksX28_rest_2 8 rfl rfl)
theorem dX28_rest_57 : decode cX28_rest 57 = .ok (.getfield 103, 3) := dk_180 0 103 (dk_at dksX28_rest_2 9 rfl rfl)
theorem dX28_rest_60 : decode cX28_rest 60 = .ok (.dup_x1, 1) := dk_90 (dk_at dksX28_rest_2 12 rfl rfl)
theorem dX28_rest_61 : decode cX28_rest 61 = .ok (.iconst 1, 1) := dk_4 (dk_at dksX28_rest_2 13 rfl rfl)
theorem dX28_rest_62 : decode cX28_rest 62 = .ok (.iadd, 1) := dk_96 (dk_at dksX28_rest_2 14 rfl rfl)
theorem dX28_rest_63 : decode cX28_rest 63 = .ok (.putfield 103, 3) := dk_181 0 103 (dk_at dksX28_rest_2 15 rfl rfl)
theorem dX28_rest_66 : decode cX28_rest 66 = .ok (.istore 5, 2) := dk_54 5 (dk_at dksX28_rest_2 18 rfl rfl)
theorem dX28_rest_68 : decode cX28_rest 68 = .ok (.aload_n 0, 1) := dk_42 (dk_at dksX28_rest_2 20 rfl rfl)
theorem dX28_rest_69 : decode cX28_rest 69 = .ok (.getfield 32, 3) := dk_180 0 32 (dk_at dksX28_rest_2 21 rfl rfl)
theorem dX28_rest_72 : decode cX28_rest 72 = .ok (.iload 5, 2) := dk_21 5 (dk_at dksX28_rest_3 0 rfl rfl)
theorem dX28_rest_74 : decode cX28_rest 74 = .ok (.lload_n 1, 1) := dk_31 (dk_at dksX28_rest_3 2 rfl rfl)
theorem dX28_rest_75 : decode cX28_rest 75 = .ok (.l2i, 1) := dk_136 (dk_at dksX28_rest_3 3 rfl rfl)
theorem dX28_rest_76 : decode cX28_rest 76 = .ok (.iastore, 1) := dk_79 (dk_at dksX28_rest_3 4 rfl rfl)
theorem dX28_rest_77 : decode cX28_rest 77 = .ok (.aload_n 0, 1) := dk_42 (dk_at dksX28_rest_3 5 rfl rfl)
theorem dX28_rest_78 : decode cX28_rest 78 = .ok (.getfield 35, 3) := dk_180 0 35 (dk_at dksX28_rest_3 6 rfl rfl)
theorem dX28_rest_81 : decode cX28_rest 81 = .ok (.iload 5, 2) := dk_21 5 (dk_at dksX28_rest_3 9 rfl rfl)
theorem dX28_rest_83 : decode cX28_rest 83 = .ok (.lload_n 3, 1) := dk_33 (dk_at dksX28_rest_3 11 rfl rfl)
theorem dX28_rest_84 : decode cX28_rest 84 = .ok (.l2i, 1) := dk_136 (dk_at dksX28_rest_3 12 rfl rfl)
theorem dX28_rest_85 : decode cX28_rest 85 = .ok (.iastore, 1) := dk_79 (dk_at dksX28_rest_3 13 rfl rfl)
theorem dX28_rest_86 : decode cX28_rest 86 = .ok (.aload_n 0, 1) := dk_42 (dk_at dksX28_rest_3 14 rfl rfl)
theorem dX28_rest_87 : decode cX28_rest 87 = .ok (.iconst 0, 1) := dk_3 (dk_at dksX28_rest_3 15 rfl rfl)
theorem dX28_rest_88 : decode cX28_rest 88 = .ok (.putfield 87, 3) := dk_181 0 87 (dk_at dksX28_rest_3 16 rfl rfl)
theorem dX28_rest_91 : decode cX28_rest 91 = .ok (.iconst 1, 1) := dk_4 (dk_at dksX28_rest_3 19 rfl rfl)
theorem dX28_rest_92 : decode cX28_rest 92 = .ok (.ireturn, 1) := dk_172 (dk_at dksX28_rest_3 20 rfl rfl)
abbrev cX28_restOf : ByteArray := prog_2_method_10_code
def yX28_restOf : MethodName := ⟨RX28, "restOf", "(I)I"⟩
def dkwX28_restOf_1 : List UInt8 := [132, 2, 1, 167, 255, 233, 2, 172]
abbrev dktX28_restOf_1 : List UInt8 := dkwX28_restOf_1 ++ []
def dkwX28_restOf_0 : List UInt8 := [3, 61, 28, 42, 180, 0, 103, 162, 0, 21, 42, 180, 0, 32, 28, 46, 27, 160, 0, 5, 28, 172]
abbrev dktX28_restOf_0 : List UInt8 := dkwX28_restOf_0 ++ dktX28_restOf_1
theorem dksX28_restOf_0 : cX28_restOf.data.toList.drop 0 = dktX28_restOf_0 := by decide +kernel
theorem dksX28_restOf_1 : cX28_restOf.data.toList.drop 22 = dktX28_restOf_1 := dk_seg dksX28_restOf_0 22 rfl rfl
theorem dX28_restOf_0 : decode cX28_restOf 0 = .ok (.iconst 0, 1) := dk_3 (dk_at dksX28_restOf_0 0 rfl rfl)
theorem dX28_restOf_1 : decode cX28_restOf 1 = .ok (.istore_n 2, 1) := dk_61 (dk_at dksX28_restOf_0 1 rfl rfl)
theorem dX28_restOf_2 : decode cX28_restOf 2 = .ok (.iload_n 2, 1) := dk_28 (dk_at dksX28_restOf_0 2 rfl rfl)
theorem dX28_restOf_3 : decode cX28_restOf 3 = .ok (.aload_n 0, 1) := dk_42 (dk_at dksX28_restOf_0 3 rfl rfl)
theorem dX28_restOf_4 : decode cX28_restOf 4 = .ok (.getfield 103, 3) := dk_180 0 103 (dk_at dksX28_restOf_0 4 rfl rfl)
theorem dX28_restOf_7 : decode cX28_restOf 7 = .ok (.if_icmp .ge 21, 3) := dk_162 0 21 (dk_at dksX28_restOf_0 7 rfl rfl)
theorem dX28_restOf_10 : decode cX28_restOf 10 = .ok (.aload_n 0, 1) := dk_42 (dk_at dksX28_restOf_0 10 rfl rfl)
theorem dX28_restOf_11 : decode cX28_restOf 11 = .ok (.getfield 32, 3) := dk_180 0 32 (dk_at dksX28_restOf_0 11 rfl rfl)
theorem dX28_restOf_14 : decode cX28_restOf 14 = .ok (.iload_n 2, 1) := dk_28 (dk_at dksX28_restOf_0 14 rfl rfl)
theorem dX28_restOf_15 : decode cX28_restOf 15 = .ok (.iaload, 1) := dk_46 (dk_at dksX28_restOf_0 15 rfl rfl)
theorem dX28_restOf_16 : decode cX28_restOf 16 = .ok (.iload_n 1, 1) := dk_27 (dk_at dksX28_restOf_0 16 rfl rfl)
theorem dX28_restOf_17 : decode cX28_restOf 17 = .ok (.if_icmp .ne 5, 3) := dk_160 0 5 (dk_at dksX28_restOf_0 17 rfl rfl)
theorem dX28_restOf_20 : decode cX28_restOf 20 = .ok (.iload_n 2, 1) := dk_28 (dk_at dksX28_restOf_0 20 rfl rfl)
theorem dX28_restOf_21 : decode cX28_restOf 21 = .ok (.ireturn, 1) := dk_172 (dk_at dksX28_restOf_0 21 rfl rfl)
theorem dX28_restOf_22 : decode cX28_restOf 22 = .ok (.iinc 2 1, 3) := dk_132 2 1 (dk_at dksX28_restOf_1 0 rfl rfl)
theorem dX28_restOf_25 : decode cX28_restOf 25 = .ok (.goto (-23), 3) := dk_167 255 233 (dk_at dksX28_restOf_1 3 rfl rfl)
theorem dX28_restOf_28 : decode cX28_restOf 28 = .ok (.iconst (-1), 1) := dk_2 (dk_at dksX28_restOf_1 6 rfl rfl)
theorem dX28_restOf_29 : decode cX28_restOf 29 = .ok (.ireturn, 1) := dk_172 (dk_at dksX28_restOf_1 7 rfl rfl)
abbrev cX28_breaks : ByteArray := prog_2_method_12_code
def yX28_breaks : MethodName := ⟨RX28, "breaks", "(I)Z"⟩
def dkwX28_breaks_1 : List UInt8 := [180, 0, 9, 27, 50, 4, 181, 0, 112, 42, 3, 181, 0, 87, 4, 172]
abbrev dktX28_breaks_1 : List UInt8 := dkwX28_breaks_1 ++ []
def dkwX28_breaks_0 : List UInt8 := [42, 27, 182, 0, 91, 153, 0, 15, 42, 180, 0, 9, 27, 50, 180, 0, 112, 153, 0, 5, 3, 172, 42]
abbrev dktX28_breaks_0 : List UInt8 := dkwX28_breaks_0 ++ dktX28_breaks_1
theorem dksX28_breaks_0 : cX28_breaks.data.toList.drop 0 = dktX28_breaks_0 := by decide +kernel
theorem dksX28_breaks_1 : cX28_breaks.data.toList.drop 23 = dktX28_breaks_1 := dk_seg dksX28_breaks_0 23 rfl rfl
theorem dX28_breaks_0 : decode cX28_breaks 0 = .ok (.aload_n 0, 1) := dk_42 (dk_at dksX28_breaks_0 0 rfl rfl)
theorem dX28_breaks_1 : decode cX28_breaks 1 = .ok (.iload_n 1, 1) := dk_27 (dk_at dksX28_breaks_0 1 rfl rfl)
theorem dX28_breaks_2 : decode cX28_breaks 2 = .ok (.invokevirtual 91, 3) := dk_182 0 91 (dk_at dksX28_breaks_0 2 rfl rfl)
theorem dX28_breaks_5 : decode cX28_breaks 5 = .ok (.ifCond .eq 15, 3) := dk_153 0 15 (dk_at dksX28_breaks_0 5 rfl rfl)
theorem dX28_breaks_8 : decode cX28_breaks 8 = .ok (.aload_n 0, 1) := dk_42 (dk_at dksX28_breaks_0 8 rfl rfl)
theorem dX28_breaks_9 : decode cX28_breaks 9 = .ok (.getfield 9, 3) := dk_180 0 9 (dk_at dksX28_breaks_0 9 rfl rfl)
theorem dX28_breaks_12 : decode cX28_breaks 12 = .ok (.iload_n 1, 1) := dk_27 (dk_at dksX28_breaks_0 12 rfl rfl)
theorem dX28_breaks_13 : decode cX28_breaks 13 = .ok (.aaload, 1) := dk_50 (dk_at dksX28_breaks_0 13 rfl rfl)
theorem dX28_breaks_14 : decode cX28_breaks 14 = .ok (.getfield 112, 3) := dk_180 0 112 (dk_at dksX28_breaks_0 14 rfl rfl)
theorem dX28_breaks_17 : decode cX28_breaks 17 = .ok (.ifCond .eq 5, 3) := dk_153 0 5 (dk_at dksX28_breaks_0 17 rfl rfl)
theorem dX28_breaks_20 : decode cX28_breaks 20 = .ok (.iconst 0, 1) := dk_3 (dk_at dksX28_breaks_0 20 rfl rfl)
theorem dX28_breaks_21 : decode cX28_breaks 21 = .ok (.ireturn, 1) := dk_172 (dk_at dksX28_breaks_0 21 rfl rfl)
theorem dX28_breaks_22 : decode cX28_breaks 22 = .ok (.aload_n 0, 1) := dk_42 (dk_at dksX28_breaks_0 22 rfl rfl)
theorem dX28_breaks_23 : decode cX28_breaks 23 = .ok (.getfield 9, 3) := dk_180 0 9 (dk_at dksX28_breaks_1 0 rfl rfl)
theorem dX28_breaks_26 : decode cX28_breaks 26 = .ok (.iload_n 1, 1) := dk_27 (dk_at dksX28_breaks_1 3 rfl rfl)
theorem dX28_breaks_27 : decode cX28_breaks 27 = .ok (.aaload, 1) := dk_50 (dk_at dksX28_breaks_1 4 rfl rfl)
theorem dX28_breaks_28 : decode cX28_breaks 28 = .ok (.iconst 1, 1) := dk_4 (dk_at dksX28_breaks_1 5 rfl rfl)
theorem dX28_breaks_29 : decode cX28_breaks 29 = .ok (.putfield 112, 3) := dk_181 0 112 (dk_at dksX28_breaks_1 6 rfl rfl)
theorem dX28_breaks_32 : decode cX28_breaks 32 = .ok (.aload_n 0, 1) := dk_42 (dk_at dksX28_breaks_1 9 rfl rfl)
theorem dX28_breaks_33 : decode cX28_breaks 33 = .ok (.iconst 0, 1) := dk_3 (dk_at dksX28_breaks_1 10 rfl rfl)
theorem dX28_breaks_34 : decode cX28_breaks 34 = .ok (.putfield 87, 3) := dk_181 0 87 (dk_at dksX28_breaks_1 11 rfl rfl)
theorem dX28_breaks_37 : decode cX28_breaks 37 = .ok (.iconst 1, 1) := dk_4 (dk_at dksX28_breaks_1 14 rfl rfl)
theorem dX28_breaks_38 : decode cX28_breaks 38 = .ok (.ireturn, 1) := dk_172 (dk_at dksX28_breaks_1 15 rfl rfl)
abbrev cX28_sure : ByteArray := prog_2_method_13_code
def yX28_sure : MethodName := ⟨RX28, "sure", "(IJJ)Z"⟩
def dkwX28_sure_2 : List UInt8 := [3, 181, 0, 87, 4, 172]
abbrev dktX28_sure_2 : List UInt8 := dkwX28_sure_2 ++ []
def dkwX28_sure_1 : List UInt8 := [184, 0, 71, 154, 0, 5, 3, 172, 42, 180, 0, 29, 27, 20, 0, 117, 22, 4, 109, 32, 105, 136, 79, 42]
abbrev dktX28_sure_1 : List UInt8 := dkwX28_sure_1 ++ dktX28_sure_2
def dkwX28_sure_0 : List UInt8 := [27, 184, 0, 62, 153, 0, 25, 22, 4, 10, 20, 0, 115, 184, 0, 71, 153, 0, 13, 32, 9, 22, 4]
abbrev dktX28_sure_0 : List UInt8 := dkwX28_sure_0 ++ dktX28_sure_1
theorem dksX28_sure_0 : cX28_sure.data.toList.drop 0 = dktX28_sure_0 := by decide +kernel
theorem dksX28_sure_1 : cX28_sure.data.toList.drop 23 = dktX28_sure_1 := dk_seg dksX28_sure_0 23 rfl rfl
theorem dksX28_sure_2 : cX28_sure.data.toList.drop 47 = dktX28_sure_2 := dk_seg dksX28_sure_1 24 rfl rfl
theorem dX28_sure_0 : decode cX28_sure 0 = .ok (.iload_n 1, 1) := dk_27 (dk_at dksX28_sure_0 0 rfl rfl)
theorem dX28_sure_1 : decode cX28_sure 1 = .ok (.invokestatic 62, 3) := dk_184 0 62 (dk_at dksX28_sure_0 1 rfl rfl)
theorem dX28_sure_4 : decode cX28_sure 4 = .ok (.ifCond .eq 25, 3) := dk_153 0 25 (dk_at dksX28_sure_0 4 rfl rfl)
theorem dX28_sure_7 : decode cX28_sure 7 = .ok (.lload 4, 2) := dk_22 4 (dk_at dksX28_sure_0 7 rfl rfl)
theorem dX28_sure_9 : decode cX28_sure 9 = .ok (.lconst 1, 1) := dk_10 (dk_at dksX28_sure_0 9 rfl rfl)
theorem dX28_sure_10 : decode cX28_sure 10 = .ok (.ldc2_w 115, 3) := dk_20 0 115 (dk_at dksX28_sure_0 10 rfl rfl)
theorem dX28_sure_13 : decode cX28_sure 13 = .ok (.invokestatic 71, 3) := dk_184 0 71 (dk_at dksX28_sure_0 13 rfl rfl)
theorem dX28_sure_16 : decode cX28_sure 16 = .ok (.ifCond .eq 13, 3) := dk_153 0 13 (dk_at dksX28_sure_0 16 rfl rfl)
theorem dX28_sure_19 : decode cX28_sure 19 = .ok (.lload_n 2, 1) := dk_32 (dk_at dksX28_sure_0 19 rfl rfl)
theorem dX28_sure_20 : decode cX28_sure 20 = .ok (.lconst 0, 1) := dk_9 (dk_at dksX28_sure_0 20 rfl rfl)
theorem dX28_sure_21 : decode cX28_sure 21 = .ok (.lload 4, 2) := dk_22 4 (dk_at dksX28_sure_0 21 rfl rfl)
theorem dX28_sure_23 : decode cX28_sure 23 = .ok (.invokestatic 71, 3) := dk_184 0 71 (dk_at dksX28_sure_1 0 rfl rfl)
theorem dX28_sure_26 : decode cX28_sure 26 = .ok (.ifCond .ne 5, 3) := dk_154 0 5 (dk_at dksX28_sure_1 3 rfl rfl)
theorem dX28_sure_29 : decode cX28_sure 29 = .ok (.iconst 0, 1) := dk_3 (dk_at dksX28_sure_1 6 rfl rfl)
theorem dX28_sure_30 : decode cX28_sure 30 = .ok (.ireturn, 1) := dk_172 (dk_at dksX28_sure_1 7 rfl rfl)
theorem dX28_sure_31 : decode cX28_sure 31 = .ok (.aload_n 0, 1) := dk_42 (dk_at dksX28_sure_1 8 rfl rfl)
theorem dX28_sure_32 : decode cX28_sure 32 = .ok (.getfield 29, 3) := dk_180 0 29 (dk_at dksX28_sure_1 9 rfl rfl)
theorem dX28_sure_35 : decode cX28_sure 35 = .ok (.iload_n 1, 1) := dk_27 (dk_at dksX28_sure_1 12 rfl rfl)
theorem dX28_sure_36 : decode cX28_sure 36 = .ok (.ldc2_w 117, 3) := dk_20 0 117 (dk_at dksX28_sure_1 13 rfl rfl)
theorem dX28_sure_39 : decode cX28_sure 39 = .ok (.lload 4, 2) := dk_22 4 (dk_at dksX28_sure_1 16 rfl rfl)
theorem dX28_sure_41 : decode cX28_sure 41 = .ok (.ldiv, 1) := dk_109 (dk_at dksX28_sure_1 18 rfl rfl)
theorem dX28_sure_42 : decode cX28_sure 42 = .ok (.lload_n 2, 1) := dk_32 (dk_at dksX28_sure_1 19 rfl rfl)
theorem dX28_sure_43 : decode cX28_sure 43 = .ok (.lmul, 1) := dk_105 (dk_at dksX28_sure_1 20 rfl rfl)
theorem dX28_sure_44 : decode cX28_sure 44 = .ok (.l2i, 1) := dk_136 (dk_at dksX28_sure_1 21 rfl rfl)
theorem dX28_sure_45 : decode cX28_sure 45 = .ok (.iastore, 1) := dk_79 (dk_at dksX28_sure_1 22 rfl rfl)
theorem dX28_sure_46 : decode cX28_sure 46 = .ok (.aload_n 0, 1) := dk_42 (dk_at dksX28_sure_1 23 rfl rfl)
theorem dX28_sure_47 : decode cX28_sure 47 = .ok (.iconst 0, 1) := dk_3 (dk_at dksX28_sure_2 0 rfl rfl)
theorem dX28_sure_48 : decode cX28_sure 48 = .ok (.putfield 87, 3) := dk_181 0 87 (dk_at dksX28_sure_2 1 rfl rfl)
theorem dX28_sure_51 : decode cX28_sure 51 = .ok (.iconst 1, 1) := dk_4 (dk_at dksX28_sure_2 4 rfl rfl)
theorem dX28_sure_52 : decode cX28_sure 52 = .ok (.ireturn, 1) := dk_172 (dk_at dksX28_sure_2 5 rfl rfl)
abbrev cX28_states : ByteArray := prog_2_method_23_code
def yX28_states : MethodName := ⟨RX28, "states", "()J"⟩
def dkwX28_states_2 : List UInt8 := [167, 0, 4, 9, 97, 64, 132, 4, 1, 167, 255, 218, 132, 3, 1, 167, 255, 199, 31, 173]
abbrev dktX28_states_2 : List UInt8 := dkwX28_states_2 ++ []
def dkwX28_states_1 : List UInt8 := [162, 0, 35, 42, 29, 182, 0, 133, 153, 0, 27, 31, 42, 29, 21, 4, 182, 0, 136, 153, 0, 7, 10]
abbrev dktX28_states_1 : List UInt8 := dkwX28_states_1 ++ dktX28_states_2
def dkwX28_states_0 : List UInt8 := [10, 64, 4, 62, 29, 4, 42, 180, 0, 58, 120, 162, 0, 53, 3, 54, 4, 21, 4, 42, 180, 0, 58]
abbrev dktX28_states_0 : List UInt8 := dkwX28_states_0 ++ dktX28_states_1
theorem dksX28_states_0 : cX28_states.data.toList.drop 0 = dktX28_states_0 := by decide +kernel
theorem dksX28_states_1 : cX28_states.data.toList.drop 23 = dktX28_states_1 := dk_seg dksX28_states_0 23 rfl rfl
theorem dksX28_states_2 : cX28_states.data.toList.drop 46 = dktX28_states_2 := dk_seg dksX28_states_1 23 rfl rfl
theorem dX28_states_0 : decode cX28_states 0 = .ok (.lconst 1, 1) := dk_10 (dk_at dksX28_states_0 0 rfl rfl)
theorem dX28_states_1 : decode cX28_states 1 = .ok (.lstore_n 1, 1) := dk_64 (dk_at dksX28_states_0 1 rfl rfl)
theorem dX28_states_2 : decode cX28_states 2 = .ok (.iconst 1, 1) := dk_4 (dk_at dksX28_states_0 2 rfl rfl)
theorem dX28_states_3 : decode cX28_states 3 = .ok (.istore_n 3, 1) := dk_62 (dk_at dksX28_states_0 3 rfl rfl)
theorem dX28_states_4 : decode cX28_states 4 = .ok (.iload_n 3, 1) := dk_29 (dk_at dksX28_states_0 4 rfl rfl)
theorem dX28_states_5 : decode cX28_states 5 = .ok (.iconst 1, 1) := dk_4 (dk_at dksX28_states_0 5 rfl rfl)
theorem dX28_states_6 : decode cX28_states 6 = .ok (.aload_n 0, 1) := dk_42 (dk_at dksX28_states_0 6 rfl rfl)
theorem dX28_states_7 : decode cX28_states 7 = .ok (.getfield 58, 3) := dk_180 0 58 (dk_at dksX28_states_0 7 rfl rfl)
theorem dX28_states_10 : decode cX28_states 10 = .ok (.ishl, 1) := dk_120 (dk_at dksX28_states_0 10 rfl rfl)
theorem dX28_states_11 : decode cX28_states 11 = .ok (.if_icmp .ge 53, 3) := dk_162 0 53 (dk_at dksX28_states_0 11 rfl rfl)
theorem dX28_states_14 : decode cX28_states 14 = .ok (.iconst 0, 1) := dk_3 (dk_at dksX28_states_0 14 rfl rfl)
theorem dX28_states_15 : decode cX28_states 15 = .ok (.istore 4, 2) := dk_54 4 (dk_at dksX28_states_0 15 rfl rfl)
theorem dX28_states_17 : decode cX28_states 17 = .ok (.iload 4, 2) := dk_21 4 (dk_at dksX28_states_0 17 rfl rfl)
theorem dX28_states_19 : decode cX28_states 19 = .ok (.aload_n 0, 1) := dk_42 (dk_at dksX28_states_0 19 rfl rfl)
theorem dX28_states_20 : decode cX28_states 20 = .ok (.getfield 58, 3) := dk_180 0 58 (dk_at dksX28_states_0 20 rfl rfl)
theorem dX28_states_23 : decode cX28_states 23 = .ok (.if_icmp .ge 35, 3) := dk_162 0 35 (dk_at dksX28_states_1 0 rfl rfl)
theorem dX28_states_26 : decode cX28_states 26 = .ok (.aload_n 0, 1) := dk_42 (dk_at dksX28_states_1 3 rfl rfl)
theorem dX28_states_27 : decode cX28_states 27 = .ok (.iload_n 3, 1) := dk_29 (dk_at dksX28_states_1 4 rfl rfl)
theorem dX28_states_28 : decode cX28_states 28 = .ok (.invokevirtual 133, 3) := dk_182 0 133 (dk_at dksX28_states_1 5 rfl rfl)
theorem dX28_states_31 : decode cX28_states 31 = .ok (.ifCond .eq 27, 3) := dk_153 0 27 (dk_at dksX28_states_1 8 rfl rfl)
theorem dX28_states_34 : decode cX28_states 34 = .ok (.lload_n 1, 1) := dk_31 (dk_at dksX28_states_1 11 rfl rfl)
theorem dX28_states_35 : decode cX28_states 35 = .ok (.aload_n 0, 1) := dk_42 (dk_at dksX28_states_1 12 rfl rfl)
theorem dX28_states_36 : decode cX28_states 36 = .ok (.iload_n 3, 1) := dk_29 (dk_at dksX28_states_1 13 rfl rfl)
theorem dX28_states_37 : decode cX28_states 37 = .ok (.iload 4, 2) := dk_21 4 (dk_at dksX28_states_1 14 rfl rfl)
theorem dX28_states_39 : decode cX28_states 39 = .ok (.invokevirtual 136, 3) := dk_182 0 136 (dk_at dksX28_states_1 16 rfl rfl)
theorem dX28_states_42 : decode cX28_states 42 = .ok (.ifCond .eq 7, 3) := dk_153 0 7 (dk_at dksX28_states_1 19 rfl rfl)
theorem dX28_states_45 : decode cX28_states 45 = .ok (.lconst 1, 1) := dk_10 (dk_at dksX28_states_1 22 rfl rfl)
theorem dX28_states_46 : decode cX28_states 46 = .ok (.goto 4, 3) := dk_167 0 4 (dk_at dksX28_states_2 0 rfl rfl)
theorem dX28_states_49 : decode cX28_states 49 = .ok (.lconst 0, 1) := dk_9 (dk_at dksX28_states_2 3 rfl rfl)
theorem dX28_states_50 : decode cX28_states 50 = .ok (.ladd, 1) := dk_97 (dk_at dksX28_states_2 4 rfl rfl)
theorem dX28_states_51 : decode cX28_states 51 = .ok (.lstore_n 1, 1) := dk_64 (dk_at dksX28_states_2 5 rfl rfl)
theorem dX28_states_52 : decode cX28_states 52 = .ok (.iinc 4 1, 3) := dk_132 4 1 (dk_at dksX28_states_2 6 rfl rfl)
theorem dX28_states_55 : decode cX28_states 55 = .ok (.goto (-38), 3) := dk_167 255 218 (dk_at dksX28_states_2 9 rfl rfl)
theorem dX28_states_58 : decode cX28_states 58 = .ok (.iinc 3 1, 3) := dk_132 3 1 (dk_at dksX28_states_2 12 rfl rfl)
theorem dX28_states_61 : decode cX28_states 61 = .ok (.goto (-57), 3) := dk_167 255 199 (dk_at dksX28_states_2 15 rfl rfl)
theorem dX28_states_64 : decode cX28_states 64 = .ok (.lload_n 1, 1) := dk_31 (dk_at dksX28_states_2 18 rfl rfl)
theorem dX28_states_65 : decode cX28_states 65 = .ok (.lreturn, 1) := dk_173 (dk_at dksX28_states_2 19 rfl rfl)
abbrev cX28_isClosed : ByteArray := prog_2_method_21_code
def yX28_isClosed : MethodName := ⟨RX28, "isClosed", "(I)Z"⟩
def dkwX28_isClosed_2 : List UInt8 := [132, 3, 1, 167, 255, 211, 28, 172]
abbrev dktX28_isClosed_2 : List UInt8 := dkwX28_isClosed_2 ++ []
def dkwX28_isClosed_1 : List UInt8 := [42, 180, 0, 9, 29, 50, 180, 0, 94, 27, 2, 130, 126, 154, 0, 7, 4, 167, 0, 4, 3, 61]
abbrev dktX28_isClosed_1 : List UInt8 := dkwX28_isClosed_1 ++ dktX28_isClosed_2
def dkwX28_isClosed_0 : List UInt8 := [4, 61, 3, 62, 29, 42, 180, 0, 58, 162, 0, 43, 28, 153, 0, 39, 27, 29, 122, 4, 126, 153, 0, 19]
abbrev dktX28_isClosed_0 : List UInt8 := dkwX28_isClosed_0 ++ dktX28_isClosed_1
theorem dksX28_isClosed_0 : cX28_isClosed.data.toList.drop 0 = dktX28_isClosed_0 := by decide +kernel
theorem dksX28_isClosed_1 : cX28_isClosed.data.toList.drop 24 = dktX28_isClosed_1 := dk_seg dksX28_isClosed_0 24 rfl rfl
theorem dksX28_isClosed_2 : cX28_isClosed.data.toList.drop 46 = dktX28_isClosed_2 := dk_seg dksX28_isClosed_1 22 rfl rfl
theorem dX28_isClosed_0 : decode cX28_isClosed 0 = .ok (.iconst 1, 1) := dk_4 (dk_at dksX28_isClosed_0 0 rfl rfl)
theorem dX28_isClosed_1 : decode cX28_isClosed 1 = .ok (.istore_n 2, 1) := dk_61 (dk_at dksX28_isClosed_0 1 rfl rfl)
theorem dX28_isClosed_2 : decode cX28_isClosed 2 = .ok (.iconst 0, 1) := dk_3 (dk_at dksX28_isClosed_0 2 rfl rfl)
theorem dX28_isClosed_3 : decode cX28_isClosed 3 = .ok (.istore_n 3, 1) := dk_62 (dk_at dksX28_isClosed_0 3 rfl rfl)
theorem dX28_isClosed_4 : decode cX28_isClosed 4 = .ok (.iload_n 3, 1) := dk_29 (dk_at dksX28_isClosed_0 4 rfl rfl)
theorem dX28_isClosed_5 : decode cX28_isClosed 5 = .ok (.aload_n 0, 1) := dk_42 (dk_at dksX28_isClosed_0 5 rfl rfl)
theorem dX28_isClosed_6 : decode cX28_isClosed 6 = .ok (.getfield 58, 3) := dk_180 0 58 (dk_at dksX28_isClosed_0 6 rfl rfl)
theorem dX28_isClosed_9 : decode cX28_isClosed 9 = .ok (.if_icmp .ge 43, 3) := dk_162 0 43 (dk_at dksX28_isClosed_0 9 rfl rfl)
theorem dX28_isClosed_12 : decode cX28_isClosed 12 = .ok (.iload_n 2, 1) := dk_28 (dk_at dksX28_isClosed_0 12 rfl rfl)
theorem dX28_isClosed_13 : decode cX28_isClosed 13 = .ok (.ifCond .eq 39, 3) := dk_153 0 39 (dk_at dksX28_isClosed_0 13 rfl rfl)
theorem dX28_isClosed_16 : decode cX28_isClosed 16 = .ok (.iload_n 1, 1) := dk_27 (dk_at dksX28_isClosed_0 16 rfl rfl)
theorem dX28_isClosed_17 : decode cX28_isClosed 17 = .ok (.iload_n 3, 1) := dk_29 (dk_at dksX28_isClosed_0 17 rfl rfl)
theorem dX28_isClosed_18 : decode cX28_isClosed 18 = .ok (.ishr, 1) := dk_122 (dk_at dksX28_isClosed_0 18 rfl rfl)
theorem dX28_isClosed_19 : decode cX28_isClosed 19 = .ok (.iconst 1, 1) := dk_4 (dk_at dksX28_isClosed_0 19 rfl rfl)
theorem dX28_isClosed_20 : decode cX28_isClosed 20 = .ok (.iand, 1) := dk_126 (dk_at dksX28_isClosed_0 20 rfl rfl)
theorem dX28_isClosed_21 : decode cX28_isClosed 21 = .ok (.ifCond .eq 19, 3) := dk_153 0 19 (dk_at dksX28_isClosed_0 21 rfl rfl)
theorem dX28_isClosed_24 : decode cX28_isClosed 24 = .ok (.aload_n 0, 1) := dk_42 (dk_at dksX28_isClosed_1 0 rfl rfl)
theorem dX28_isClosed_25 : decode cX28_isClosed 25 = .ok (.getfield 9, 3) := dk_180 0 9 (dk_at dksX28_isClosed_1 1 rfl rfl)
theorem dX28_isClosed_28 : decode cX28_isClosed 28 = .ok (.iload_n 3, 1) := dk_29 (dk_at dksX28_isClosed_1 4 rfl rfl)
theorem dX28_isClosed_29 : decode cX28_isClosed 29 = .ok (.aaload, 1) := dk_50 (dk_at dksX28_isClosed_1 5 rfl rfl)
theorem dX28_isClosed_30 : decode cX28_isClosed 30 = .ok (.getfield 94, 3) := dk_180 0 94 (dk_at dksX28_isClosed_1 6 rfl rfl)
theorem dX28_isClosed_33 : decode cX28_isClosed 33 = .ok (.iload_n 1, 1) := dk_27 (dk_at dksX28_isClosed_1 9 rfl rfl)
theorem dX28_isClosed_34 : decode cX28_isClosed 34 = .ok (.iconst (-1), 1) := dk_2 (dk_at dksX28_isClosed_1 10 rfl rfl)
theorem dX28_isClosed_35 : decode cX28_isClosed 35 = .ok (.ixor, 1) := dk_130 (dk_at dksX28_isClosed_1 11 rfl rfl)
theorem dX28_isClosed_36 : decode cX28_isClosed 36 = .ok (.iand, 1) := dk_126 (dk_at dksX28_isClosed_1 12 rfl rfl)
theorem dX28_isClosed_37 : decode cX28_isClosed 37 = .ok (.ifCond .ne 7, 3) := dk_154 0 7 (dk_at dksX28_isClosed_1 13 rfl rfl)
theorem dX28_isClosed_40 : decode cX28_isClosed 40 = .ok (.iconst 1, 1) := dk_4 (dk_at dksX28_isClosed_1 16 rfl rfl)
theorem dX28_isClosed_41 : decode cX28_isClosed 41 = .ok (.goto 4, 3) := dk_167 0 4 (dk_at dksX28_isClosed_1 17 rfl rfl)
theorem dX28_isClosed_44 : decode cX28_isClosed 44 = .ok (.iconst 0, 1) := dk_3 (dk_at dksX28_isClosed_1 20 rfl rfl)
theorem dX28_isClosed_45 : decode cX28_isClosed 45 = .ok (.istore_n 2, 1) := dk_61 (dk_at dksX28_isClosed_1 21 rfl rfl)
theorem dX28_isClosed_46 : decode cX28_isClosed 46 = .ok (.iinc 3 1, 3) := dk_132 3 1 (dk_at dksX28_isClosed_2 0 rfl rfl)
theorem dX28_isClosed_49 : decode cX28_isClosed 49 = .ok (.goto (-45), 3) := dk_167 255 211 (dk_at dksX28_isClosed_2 3 rfl rfl)
theorem dX28_isClosed_52 : decode cX28_isClosed 52 = .ok (.iload_n 2, 1) := dk_28 (dk_at dksX28_isClosed_2 6 rfl rfl)
theorem dX28_isClosed_53 : decode cX28_isClosed 53 = .ok (.ireturn, 1) := dk_172 (dk_at dksX28_isClosed_2 7 rfl rfl)
abbrev cX28_isLast : ByteArray := prog_2_method_22_code
def yX28_isLast : MethodName := ⟨RX28, "isLast", "(II)Z"⟩
def dkwX28_isLast_1 : List UInt8 := [167, 0, 4, 3, 172]
abbrev dktX28_isLast_1 : List UInt8 := dkwX28_isLast_1 ++ []
def dkwX28_isLast_0 : List UInt8 := [27, 28, 122, 4, 126, 4, 160, 0, 19, 42, 27, 4, 28, 120, 130, 182, 0, 133, 153, 0, 7, 4]
abbrev dktX28_isLast_0 : List UInt8 := dkwX28_isLast_0 ++ dktX28_isLast_1
theorem dksX28_isLast_0 : cX28_isLast.data.toList.drop 0 = dktX28_isLast_0 := by decide +kernel
theorem dksX28_isLast_1 : cX28_isLast.data.toList.drop 22 = dktX28_isLast_1 := dk_seg dksX28_isLast_0 22 rfl rfl
theorem dX28_isLast_0 : decode cX28_isLast 0 = .ok (.iload_n 1, 1) := dk_27 (dk_at dksX28_isLast_0 0 rfl rfl)
theorem dX28_isLast_1 : decode cX28_isLast 1 = .ok (.iload_n 2, 1) := dk_28 (dk_at dksX28_isLast_0 1 rfl rfl)
theorem dX28_isLast_2 : decode cX28_isLast 2 = .ok (.ishr, 1) := dk_122 (dk_at dksX28_isLast_0 2 rfl rfl)
theorem dX28_isLast_3 : decode cX28_isLast 3 = .ok (.iconst 1, 1) := dk_4 (dk_at dksX28_isLast_0 3 rfl rfl)
theorem dX28_isLast_4 : decode cX28_isLast 4 = .ok (.iand, 1) := dk_126 (dk_at dksX28_isLast_0 4 rfl rfl)
theorem dX28_isLast_5 : decode cX28_isLast 5 = .ok (.iconst 1, 1) := dk_4 (dk_at dksX28_isLast_0 5 rfl rfl)
theorem dX28_isLast_6 : decode cX28_isLast 6 = .ok (.if_icmp .ne 19, 3) := dk_160 0 19 (dk_at dksX28_isLast_0 6 rfl rfl)
theorem dX28_isLast_9 : decode cX28_isLast 9 = .ok (.aload_n 0, 1) := dk_42 (dk_at dksX28_isLast_0 9 rfl rfl)
theorem dX28_isLast_10 : decode cX28_isLast 10 = .ok (.iload_n 1, 1) := dk_27 (dk_at dksX28_isLast_0 10 rfl rfl)
theorem dX28_isLast_11 : decode cX28_isLast 11 = .ok (.iconst 1, 1) := dk_4 (dk_at dksX28_isLast_0 11 rfl rfl)
theorem dX28_isLast_12 : decode cX28_isLast 12 = .ok (.iload_n 2, 1) := dk_28 (dk_at dksX28_isLast_0 12 rfl rfl)
theorem dX28_isLast_13 : decode cX28_isLast 13 = .ok (.ishl, 1) := dk_120 (dk_at dksX28_isLast_0 13 rfl rfl)
theorem dX28_isLast_14 : decode cX28_isLast 14 = .ok (.ixor, 1) := dk_130 (dk_at dksX28_isLast_0 14 rfl rfl)
theorem dX28_isLast_15 : decode cX28_isLast 15 = .ok (.invokevirtual 133, 3) := dk_182 0 133 (dk_at dksX28_isLast_0 15 rfl rfl)
theorem dX28_isLast_18 : decode cX28_isLast 18 = .ok (.ifCond .eq 7, 3) := dk_153 0 7 (dk_at dksX28_isLast_0 18 rfl rfl)
theorem dX28_isLast_21 : decode cX28_isLast 21 = .ok (.iconst 1, 1) := dk_4 (dk_at dksX28_isLast_0 21 rfl rfl)
theorem dX28_isLast_22 : decode cX28_isLast 22 = .ok (.goto 4, 3) := dk_167 0 4 (dk_at dksX28_isLast_1 0 rfl rfl)
theorem dX28_isLast_25 : decode cX28_isLast 25 = .ok (.iconst 0, 1) := dk_3 (dk_at dksX28_isLast_1 3 rfl rfl)
theorem dX28_isLast_26 : decode cX28_isLast 26 = .ok (.ireturn, 1) := dk_172 (dk_at dksX28_isLast_1 4 rfl rfl)
abbrev cX28_run : ByteArray := prog_2_method_26_code
def yX28_run : MethodName := ⟨RX28, "run", "(J)I"⟩
def dkwX28_run_10 : List UInt8 := [181, 0, 87, 42, 180, 0, 176, 172]
abbrev dktX28_run_10 : List UInt8 := dkwX28_run_10 ++ []
def dkwX28_run_9 : List UInt8 := [42, 21, 7, 182, 0, 125, 167, 0, 4, 9, 80, 132, 7, 1, 167, 255, 218, 42, 4, 181, 0, 188, 42, 4]
abbrev dktX28_run_9 : List UInt8 := dkwX28_run_9 ++ dktX28_run_10
def dkwX28_run_8 : List UInt8 := [21, 7, 16, 12, 162, 0, 37, 42, 180, 0, 45, 21, 7, 21, 6, 21, 7, 122, 4, 126, 4, 160, 0, 12]
abbrev dktX28_run_8 : List UInt8 := dkwX28_run_8 ++ dktX28_run_9
def dkwX28_run_7 : List UInt8 := [182, 0, 122, 2, 130, 126, 54, 6, 42, 17, 15, 255, 21, 5, 2, 130, 126, 181, 0, 185, 3, 54, 7]
abbrev dktX28_run_7 : List UInt8 := dkwX28_run_7 ++ dktX28_run_8
def dkwX28_run_6 : List UInt8 := [181, 0, 179, 42, 42, 180, 0, 58, 181, 0, 182, 42, 29, 182, 0, 119, 54, 5, 21, 5, 42, 29]
abbrev dktX28_run_6 : List UInt8 := dkwX28_run_6 ++ dktX28_run_7
def dkwX28_run_5 : List UInt8 := [4, 96, 181, 0, 176, 21, 5, 79, 29, 4, 21, 5, 120, 128, 62, 21, 5, 54, 4, 167, 255, 148, 42, 29]
abbrev dktX28_run_5 : List UInt8 := dkwX28_run_5 ++ dktX28_run_6
def dkwX28_run_4 : List UInt8 := [184, 0, 143, 47, 148, 153, 0, 9, 132, 5, 1, 167, 255, 203, 42, 180, 0, 42, 42, 89, 180, 0, 176, 90]
abbrev dktX28_run_4 : List UInt8 := dkwX28_run_4 ++ dktX28_run_5
def dkwX28_run_3 : List UInt8 := [120, 128, 21, 5, 184, 0, 143, 47, 42, 21, 4, 21, 5, 182, 0, 163, 101, 42, 180, 0, 38, 29, 21, 4]
abbrev dktX28_run_3 : List UInt8 := dkwX28_run_3 ++ dktX28_run_4
def dkwX28_run_2 : List UInt8 := [153, 0, 94, 3, 54, 5, 42, 29, 21, 5, 182, 0, 160, 153, 0, 43, 42, 180, 0, 38, 29, 4, 21, 5]
abbrev dktX28_run_2 : List UInt8 := dkwX28_run_2 ++ dktX28_run_3
def dkwX28_run_1 : List UInt8 := [42, 3, 181, 0, 176, 42, 29, 182, 0, 140, 42, 180, 0, 38, 29, 21, 4, 184, 0, 143, 47, 148]
abbrev dktX28_run_1 : List UInt8 := dkwX28_run_1 ++ dktX28_run_2
def dkwX28_run_0 : List UInt8 := [42, 182, 0, 165, 31, 148, 158, 0, 5, 2, 172, 42, 42, 182, 0, 169, 181, 0, 172, 3, 62, 2, 54, 4]
abbrev dktX28_run_0 : List UInt8 := dkwX28_run_0 ++ dktX28_run_1
theorem dksX28_run_0 : cX28_run.data.toList.drop 0 = dktX28_run_0 := by decide +kernel
theorem dksX28_run_1 : cX28_run.data.toList.drop 24 = dktX28_run_1 := dk_seg dksX28_run_0 24 rfl rfl
theorem dksX28_run_2 : cX28_run.data.toList.drop 46 = dktX28_run_2 := dk_seg dksX28_run_1 22 rfl rfl
theorem dksX28_run_3 : cX28_run.data.toList.drop 70 = dktX28_run_3 := dk_seg dksX28_run_2 24 rfl rfl
theorem dksX28_run_4 : cX28_run.data.toList.drop 94 = dktX28_run_4 := dk_seg dksX28_run_3 24 rfl rfl
theorem dksX28_run_5 : cX28_run.data.toList.drop 118 = dktX28_run_5 := dk_seg dksX28_run_4 24 rfl rfl
theorem dksX28_run_6 : cX28_run.data.toList.drop 142 = dktX28_run_6 := dk_seg dksX28_run_5 24 rfl rfl
theorem dksX28_run_7 : cX28_run.data.toList.drop 164 = dktX28_run_7 := dk_seg dksX28_run_6 22 rfl rfl
theorem dksX28_run_8 : cX28_run.data.toList.drop 187 = dktX28_run_8 := dk_seg dksX28_run_7 23 rfl rfl
theorem dksX28_run_9 : cX28_run.data.toList.drop 211 = dktX28_run_9 := dk_seg dksX28_run_8 24 rfl rfl
theorem dksX28_run_10 : cX28_run.data.toList.drop 235 = dktX28_run_10 := dk_seg dksX28_run_9 24 rfl rfl
theorem dX28_run_0 : decode cX28_run 0 = .ok (.aload_n 0, 1) := dk_42 (dk_at dksX28_run_0 0 rfl rfl)
theorem dX28_run_1 : decode cX28_run 1 = .ok (.invokevirtual 165, 3) := dk_182 0 165 (dk_at dksX28_run_0 1 rfl rfl)
theorem dX28_run_4 : decode cX28_run 4 = .ok (.lload_n 1, 1) := dk_31 (dk_at dksX28_run_0 4 rfl rfl)
theorem dX28_run_5 : decode cX28_run 5 = .ok (.lcmp, 1) := dk_148 (dk_at dksX28_run_0 5 rfl rfl)
theorem dX28_run_6 : decode cX28_run 6 = .ok (.ifCond .le 5, 3) := dk_158 0 5 (dk_at dksX28_run_0 6 rfl rfl)
theorem dX28_run_9 : decode cX28_run 9 = .ok (.iconst (-1), 1) := dk_2 (dk_at dksX28_run_0 9 rfl rfl)
theorem dX28_run_10 : decode cX28_run 10 = .ok (.ireturn, 1) := dk_172 (dk_at dksX28_run_0 10 rfl rfl)
theorem dX28_run_11 : decode cX28_run 11 = .ok (.aload_n 0, 1) := dk_42 (dk_at dksX28_run_0 11 rfl rfl)
theorem dX28_run_12 : decode cX28_run 12 = .ok (.aload_n 0, 1) := dk_42 (dk_at dksX28_run_0 12 rfl rfl)
theorem dX28_run_13 : decode cX28_run 13 = .ok (.invokevirtual 169, 3) := dk_182 0 169 (dk_at dksX28_run_0 13 rfl rfl)
theorem dX28_run_16 : decode cX28_run 16 = .ok (.putfield 172, 3) := dk_181 0 172 (dk_at dksX28_run_0 16 rfl rfl)
theorem dX28_run_19 : decode cX28_run 19 = .ok (.iconst 0, 1) := dk_3 (dk_at dksX28_run_0 19 rfl rfl)
theorem dX28_run_20 : decode cX28_run 20 = .ok (.istore_n 3, 1) := dk_62 (dk_at dksX28_run_0 20 rfl rfl)
theorem dX28_run_21 : decode cX28_run 21 = .ok (.iconst (-1), 1) := dk_2 (dk_at dksX28_run_0 21 rfl rfl)
theorem dX28_run_22 : decode cX28_run 22 = .ok (.istore 4, 2) := dk_54 4 (dk_at dksX28_run_0 22 rfl rfl)
theorem dX28_run_24 : decode cX28_run 24 = .ok (.aload_n 0, 1) := dk_42 (dk_at dksX28_run_1 0 rfl rfl)
theorem dX28_run_25 : decode cX28_run 25 = .ok (.iconst 0, 1) := dk_3 (dk_at dksX28_run_1 1 rfl rfl)
theorem dX28_run_26 : decode cX28_run 26 = .ok (.putfield 176, 3) := dk_181 0 176 (dk_at dksX28_run_1 2 rfl rfl)
theorem dX28_run_29 : decode cX28_run 29 = .ok (.aload_n 0, 1) := dk_42 (dk_at dksX28_run_1 5 rfl rfl)
theorem dX28_run_30 : decode cX28_run 30 = .ok (.iload_n 3, 1) := dk_29 (dk_at dksX28_run_1 6 rfl rfl)
theorem dX28_run_31 : decode cX28_run 31 = .ok (.invokevirtual 140, 3) := dk_182 0 140 (dk_at dksX28_run_1 7 rfl rfl)
theorem dX28_run_34 : decode cX28_run 34 = .ok (.aload_n 0, 1) := dk_42 (dk_at dksX28_run_1 10 rfl rfl)
theorem dX28_run_35 : decode cX28_run 35 = .ok (.getfield 38, 3) := dk_180 0 38 (dk_at dksX28_run_1 11 rfl rfl)
theorem dX28_run_38 : decode cX28_run 38 = .ok (.iload_n 3, 1) := dk_29 (dk_at dksX28_run_1 14 rfl rfl)
theorem dX28_run_39 : decode cX28_run 39 = .ok (.iload 4, 2) := dk_21 4 (dk_at dksX28_run_1 15 rfl rfl)
theorem dX28_run_41 : decode cX28_run 41 = .ok (.invokestatic 143, 3) := dk_184 0 143 (dk_at dksX28_run_1 17 rfl rfl)
theorem dX28_run_44 : decode cX28_run 44 = .ok (.laload, 1) := dk_47 (dk_at dksX28_run_1 20 rfl rfl)
theorem dX28_run_45 : decode cX28_run 45 = .ok (.lcmp, 1) := dk_148 (dk_at dksX28_run_1 21 rfl rfl)
theorem dX28_run_46 : decode cX28_run 46 = .ok (.ifCond .eq 94, 3) := dk_153 0 94 (dk_at dksX28_run_2 0 rfl rfl)
theorem dX28_run_49 : decode cX28_run 49 = .ok (.iconst 0, 1) := dk_3 (dk_at dksX28_run_2 3 rfl rfl)
theorem dX28_run_50 : decode cX28_run 50 = .ok (.istore 5, 2) := dk_54 5 (dk_at dksX28_run_2 4 rfl rfl)
theorem dX28_run_52 : decode cX28_run 52 = .ok (.aload_n 0, 1) := dk_42 (dk_at dksX28_run_2 6 rfl rfl)
theorem dX28_run_53 : decode cX28_run 53 = .ok (.iload_n 3, 1) := dk_29 (dk_at dksX28_run_2 7 rfl rfl)
theorem dX28_run_54 : decode cX28_run 54 = .ok (.iload 5, 2) := dk_21 5 (dk_at dksX28_run_2 8 rfl rfl)
theorem dX28_run_56 : decode cX28_run 56 = .ok (.invokevirtual 160, 3) := dk_182 0 160 (dk_at dksX28_run_2 10 rfl rfl)
theorem dX28_run_59 : decode cX28_run 59 = .ok (.ifCond .eq 43, 3) := dk_153 0 43 (dk_at dksX28_run_2 13 rfl rfl)
theorem dX28_run_62 : decode cX28_run 62 = .ok (.aload_n 0, 1) := dk_42 (dk_at dksX28_run_2 16 rfl rfl)
theorem dX28_run_63 : decode cX28_run 63 = .ok (.getfield 38, 3) := dk_180 0 38 (dk_at dksX28_run_2 17 rfl rfl)
theorem dX28_run_66 : decode cX28_run 66 = .ok (.iload_n 3, 1) := dk_29 (dk_at dksX28_run_2 20 rfl rfl)
theorem dX28_run_67 : decode cX28_run 67 = .ok (.iconst 1, 1) := dk_4 (dk_at dksX28_run_2 21 rfl rfl)
theorem dX28_run_68 : decode cX28_run 68 = .ok (.iload 5, 2) := dk_21 5 (dk_at dksX28_run_2 22 rfl rfl)
theorem dX28_run_70 : decode cX28_run 70 = .ok (.ishl, 1) := dk_120 (dk_at dksX28_run_3 0 rfl rfl)
theorem dX28_run_71 : decode cX28_run 71 = .ok (.ior, 1) := dk_128 (dk_at dksX28_run_3 1 rfl rfl)
theorem dX28_run_72 : decode cX28_run 72 = .ok (.iload 5, 2) := dk_21 5 (dk_at dksX28_run_3 2 rfl rfl)
theorem dX28_run_74 : decode cX28_run 74 = .ok (.invokestatic 143, 3) := dk_184 0 143 (dk_at dksX28_run_3 4 rfl rfl)
theorem dX28_run_77 : decode cX28_run 77 = .ok (.laload, 1) := dk_47 (dk_at dksX28_run_3 7 rfl rfl)
theorem dX28_run_78 : decode cX28_run 78 = .ok (.aload_n 0, 1) := dk_42 (dk_at dksX28_run_3 8 rfl rfl)
theorem dX28_run_79 : decode cX28_run 79 = .ok (.iload 4, 2) := dk_21 4 (dk_at dksX28_run_3 9 rfl rfl)
theorem dX28_run_81 : decode cX28_run 81 = .ok (.iload 5, 2) := dk_21 5 (dk_at dksX28_run_3 11 rfl rfl)
theorem dX28_run_83 : decode cX28_run 83 = .ok (.invokevirtual 163, 3) := dk_182 0 163 (dk_at dksX28_run_3 13 rfl rfl)
theorem dX28_run_86 : decode cX28_run 86 = .ok (.lsub, 1) := dk_101 (dk_at dksX28_run_3 16 rfl rfl)
theorem dX28_run_87 : decode cX28_run 87 = .ok (.aload_n 0, 1) := dk_42 (dk_at dksX28_run_3 17 rfl rfl)
theorem dX28_run_88 : decode cX28_run 88 = .ok (.getfield 38, 3) := dk_180 0 38 (dk_at dksX28_run_3 18 rfl rfl)
theorem dX28_run_91 : decode cX28_run 91 = .ok (.iload_n 3, 1) := dk_29 (dk_at dksX28_run_3 21 rfl rfl)
theorem dX28_run_92 : decode cX28_run 92 = .ok (.iload 4, 2) := dk_21 4 (dk_at dksX28_run_3 22 rfl rfl)
theorem dX28_run_94 : decode cX28_run 94 = .ok (.invokestatic 143, 3) := dk_184 0 143 (dk_at dksX28_run_4 0 rfl rfl)
theorem dX28_run_97 : decode cX28_run 97 = .ok (.laload, 1) := dk_47 (dk_at dksX28_run_4 3 rfl rfl)
theorem dX28_run_98 : decode cX28_run 98 = .ok (.lcmp, 1) := dk_148 (dk_at dksX28_run_4 4 rfl rfl)
theorem dX28_run_99 : decode cX28_run 99 = .ok (.ifCond .eq 9, 3) := dk_153 0 9 (dk_at dksX28_run_4 5 rfl rfl)
theorem dX28_run_102 : decode cX28_run 102 = .ok (.iinc 5 1, 3) := dk_132 5 1 (dk_at dksX28_run_4 8 rfl rfl)
theorem dX28_run_105 : decode cX28_run 105 = .ok (.goto (-53), 3) := dk_167 255 203 (dk_at dksX28_run_4 11 rfl rfl)
theorem dX28_run_108 : decode cX28_run 108 = .ok (.aload_n 0, 1) := dk_42 (dk_at dksX28_run_4 14 rfl rfl)
theorem dX28_run_109 : decode cX28_run 109 = .ok (.getfield 42, 3) := dk_180 0 42 (dk_at dksX28_run_4 15 rfl rfl)
theorem dX28_run_112 : decode cX28_run 112 = .ok (.aload_n 0, 1) := dk_42 (dk_at dksX28_run_4 18 rfl rfl)
theorem dX28_run_113 : decode cX28_run 113 = .ok (.dup, 1) := dk_89 (dk_at dksX28_run_4 19 rfl rfl)
theorem dX28_run_114 : decode cX28_run 114 = .ok (.getfield 176, 3) := dk_180 0 176 (dk_at dksX28_run_4 20 rfl rfl)
theorem dX28_run_117 : decode cX28_run 117 = .ok (.dup_x1, 1) := dk_90 (dk_at dksX28_run_4 23 rfl rfl)
theorem dX28_run_118 : decode cX28_run 118 = .ok (.iconst 1, 1) := dk_4 (dk_at dksX28_run_5 0 rfl rfl)
theorem dX28_run_119 : decode cX28_run 119 = .ok (.iadd, 1) := dk_96 (dk_at dksX28_run_5 1 rfl rfl)
theorem dX28_run_120 : decode cX28_run 120 = .ok (.putfield 176, 3) := dk_181 0 176 (dk_at dksX28_run_5 2 rfl rfl)
theorem dX28_run_123 : decode cX28_run 123 = .ok (.iload 5, 2) := dk_21 5 (dk_at dksX28_run_5 5 rfl rfl)
theorem dX28_run_125 : decode cX28_run 125 = .ok (.iastore, 1) := dk_79 (dk_at dksX28_run_5 7 rfl rfl)
theorem dX28_run_126 : decode cX28_run 126 = .ok (.iload_n 3, 1) := dk_29 (dk_at dksX28_run_5 8 rfl rfl)
theorem dX28_run_127 : decode cX28_run 127 = .ok (.iconst 1, 1) := dk_4 (dk_at dksX28_run_5 9 rfl rfl)
theorem dX28_run_128 : decode cX28_run 128 = .ok (.iload 5, 2) := dk_21 5 (dk_at dksX28_run_5 10 rfl rfl)
theorem dX28_run_130 : decode cX28_run 130 = .ok (.ishl, 1) := dk_120 (dk_at dksX28_run_5 12 rfl rfl)
theorem dX28_run_131 : decode cX28_run 131 = .ok (.ior, 1) := dk_128 (dk_at dksX28_run_5 13 rfl rfl)
theorem dX28_run_132 : decode cX28_run 132 = .ok (.istore_n 3, 1) := dk_62 (dk_at dksX28_run_5 14 rfl rfl)
theorem dX28_run_133 : decode cX28_run 133 = .ok (.iload 5, 2) := dk_21 5 (dk_at dksX28_run_5 15 rfl rfl)
theorem dX28_run_135 : decode cX28_run 135 = .ok (.istore 4, 2) := dk_54 4 (dk_at dksX28_run_5 17 rfl rfl)
theorem dX28_run_137 : decode cX28_run 137 = .ok (.goto (-108), 3) := dk_167 255 148 (dk_at dksX28_run_5 19 rfl rfl)
theorem dX28_run_140 : decode cX28_run 140 = .ok (.aload_n 0, 1) := dk_42 (dk_at dksX28_run_5 22 rfl rfl)
theorem dX28_run_141 : decode cX28_run 141 = .ok (.iload_n 3, 1) := dk_29 (dk_at dksX28_run_5 23 rfl rfl)
theorem dX28_run_142 : decode cX28_run 142 = .ok (.putfield 179, 3) := dk_181 0 179 (dk_at dksX28_run_6 0 rfl rfl)
theorem dX28_run_145 : decode cX28_run 145 = .ok (.aload_n 0, 1) := dk_42 (dk_at dksX28_run_6 3 rfl rfl)
theorem dX28_run_146 : decode cX28_run 146 = .ok (.aload_n 0, 1) := dk_42 (dk_at dksX28_run_6 4 rfl rfl)
theorem dX28_run_147 : decode cX28_run 147 = .ok (.getfield 58, 3) := dk_180 0 58 (dk_at dksX28_run_6 5 rfl rfl)
theorem dX28_run_150 : decode cX28_run 150 = .ok (.putfield 182, 3) := dk_181 0 182 (dk_at dksX28_run_6 8 rfl rfl)
theorem dX28_run_153 : decode cX28_run 153 = .ok (.aload_n 0, 1) := dk_42 (dk_at dksX28_run_6 11 rfl rfl)
theorem dX28_run_154 : decode cX28_run 154 = .ok (.iload_n 3, 1) := dk_29 (dk_at dksX28_run_6 12 rfl rfl)
theorem dX28_run_155 : decode cX28_run 155 = .ok (.invokevirtual 119, 3) := dk_182 0 119 (dk_at dksX28_run_6 13 rfl rfl)
theorem dX28_run_158 : decode cX28_run 158 = .ok (.istore 5, 2) := dk_54 5 (dk_at dksX28_run_6 16 rfl rfl)
theorem dX28_run_160 : decode cX28_run 160 = .ok (.iload 5, 2) := dk_21 5 (dk_at dksX28_run_6 18 rfl rfl)
theorem dX28_run_162 : decode cX28_run 162 = .ok (.aload_n 0, 1) := dk_42 (dk_at dksX28_run_6 20 rfl rfl)
theorem dX28_run_163 : decode cX28_run 163 = .ok (.iload_n 3, 1) := dk_29 (dk_at dksX28_run_6 21 rfl rfl)
theorem dX28_run_164 : decode cX28_run 164 = .ok (.invokevirtual 122, 3) := dk_182 0 122 (dk_at dksX28_run_7 0 rfl rfl)
theorem dX28_run_167 : decode cX28_run 167 = .ok (.iconst (-1), 1) := dk_2 (dk_at dksX28_run_7 3 rfl rfl)
theorem dX28_run_168 : decode cX28_run 168 = .ok (.ixor, 1) := dk_130 (dk_at dksX28_run_7 4 rfl rfl)
theorem dX28_run_169 : decode cX28_run 169 = .ok (.iand, 1) := dk_126 (dk_at dksX28_run_7 5 rfl rfl)
theorem dX28_run_170 : decode cX28_run 170 = .ok (.istore 6, 2) := dk_54 6 (dk_at dksX28_run_7 6 rfl rfl)
theorem dX28_run_172 : decode cX28_run 172 = .ok (.aload_n 0, 1) := dk_42 (dk_at dksX28_run_7 8 rfl rfl)
theorem dX28_run_173 : decode cX28_run 173 = .ok (.sipush 4095, 3) := dk_17 15 255 (dk_at dksX28_run_7 9 rfl rfl)
theorem dX28_run_176 : decode cX28_run 176 = .ok (.iload 5, 2) := dk_21 5 (dk_at dksX28_run_7 12 rfl rfl)
theorem dX28_run_178 : decode cX28_run 178 = .ok (.iconst (-1), 1) := dk_2 (dk_at dksX28_run_7 14 rfl rfl)
theorem dX28_run_179 : decode cX28_run 179 = .ok (.ixor, 1) := dk_130 (dk_at dksX28_run_7 15 rfl rfl)
theorem dX28_run_180 : decode cX28_run 180 = .ok (.iand, 1) := dk_126 (dk_at dksX28_run_7 16 rfl rfl)
theorem dX28_run_181 : decode cX28_run 181 = .ok (.putfield 185, 3) := dk_181 0 185 (dk_at dksX28_run_7 17 rfl rfl)
theorem dX28_run_184 : decode cX28_run 184 = .ok (.iconst 0, 1) := dk_3 (dk_at dksX28_run_7 20 rfl rfl)
theorem dX28_run_185 : decode cX28_run 185 = .ok (.istore 7, 2) := dk_54 7 (dk_at dksX28_run_7 21 rfl rfl)
theorem dX28_run_187 : decode cX28_run 187 = .ok (.iload 7, 2) := dk_21 7 (dk_at dksX28_run_8 0 rfl rfl)
theorem dX28_run_189 : decode cX28_run 189 = .ok (.bipush 12, 2) := dk_16 12 (dk_at dksX28_run_8 2 rfl rfl)
theorem dX28_run_191 : decode cX28_run 191 = .ok (.if_icmp .ge 37, 3) := dk_162 0 37 (dk_at dksX28_run_8 4 rfl rfl)
theorem dX28_run_194 : decode cX28_run 194 = .ok (.aload_n 0, 1) := dk_42 (dk_at dksX28_run_8 7 rfl rfl)
theorem dX28_run_195 : decode cX28_run 195 = .ok (.getfield 45, 3) := dk_180 0 45 (dk_at dksX28_run_8 8 rfl rfl)
theorem dX28_run_198 : decode cX28_run 198 = .ok (.iload 7, 2) := dk_21 7 (dk_at dksX28_run_8 11 rfl rfl)
theorem dX28_run_200 : decode cX28_run 200 = .ok (.iload 6, 2) := dk_21 6 (dk_at dksX28_run_8 13 rfl rfl)
theorem dX28_run_202 : decode cX28_run 202 = .ok (.iload 7, 2) := dk_21 7 (dk_at dksX28_run_8 15 rfl rfl)
theorem dX28_run_204 : decode cX28_run 204 = .ok (.ishr, 1) := dk_122 (dk_at dksX28_run_8 17 rfl rfl)
theorem dX28_run_205 : decode cX28_run 205 = .ok (.iconst 1, 1) := dk_4 (dk_at dksX28_run_8 18 rfl rfl)
theorem dX28_run_206 : decode cX28_run 206 = .ok (.iand, 1) := dk_126 (dk_at dksX28_run_8 19 rfl rfl)
theorem dX28_run_207 : decode cX28_run 207 = .ok (.iconst 1, 1) := dk_4 (dk_at dksX28_run_8 20 rfl rfl)
theorem dX28_run_208 : decode cX28_run 208 = .ok (.if_icmp .ne 12, 3) := dk_160 0 12 (dk_at dksX28_run_8 21 rfl rfl)
theorem dX28_run_211 : decode cX28_run 211 = .ok (.aload_n 0, 1) := dk_42 (dk_at dksX28_run_9 0 rfl rfl)
theorem dX28_run_212 : decode cX28_run 212 = .ok (.iload 7, 2) := dk_21 7 (dk_at dksX28_run_9 1 rfl rfl)
theorem dX28_run_214 : decode cX28_run 214 = .ok (.invokevirtual 125, 3) := dk_182 0 125 (dk_at dksX28_run_9 3 rfl rfl)
theorem dX28_run_217 : decode cX28_run 217 = .ok (.goto 4, 3) := dk_167 0 4 (dk_at dksX28_run_9 6 rfl rfl)
theorem dX28_run_220 : decode cX28_run 220 = .ok (.lconst 0, 1) := dk_9 (dk_at dksX28_run_9 9 rfl rfl)
theorem dX28_run_221 : decode cX28_run 221 = .ok (.lastore, 1) := dk_80 (dk_at dksX28_run_9 10 rfl rfl)
theorem dX28_run_222 : decode cX28_run 222 = .ok (.iinc 7 1, 3) := dk_132 7 1 (dk_at dksX28_run_9 11 rfl rfl)
theorem dX28_run_225 : decode cX28_run 225 = .ok (.goto (-38), 3) := dk_167 255 218 (dk_at dksX28_run_9 14 rfl rfl)
theorem dX28_run_228 : decode cX28_run 228 = .ok (.aload_n 0, 1) := dk_42 (dk_at dksX28_run_9 17 rfl rfl)
theorem dX28_run_229 : decode cX28_run 229 = .ok (.iconst 1, 1) := dk_4 (dk_at dksX28_run_9 18 rfl rfl)
theorem dX28_run_230 : decode cX28_run 230 = .ok (.putfield 188, 3) := dk_181 0 188 (dk_at dksX28_run_9 19 rfl rfl)
theorem dX28_run_233 : decode cX28_run 233 = .ok (.aload_n 0, 1) := dk_42 (dk_at dksX28_run_9 22 rfl rfl)
theorem dX28_run_234 : decode cX28_run 234 = .ok (.iconst 1, 1) := dk_4 (dk_at dksX28_run_9 23 rfl rfl)
theorem dX28_run_235 : decode cX28_run 235 = .ok (.putfield 87, 3) := dk_181 0 87 (dk_at dksX28_run_10 0 rfl rfl)
theorem dX28_run_238 : decode cX28_run 238 = .ok (.aload_n 0, 1) := dk_42 (dk_at dksX28_run_10 3 rfl rfl)
theorem dX28_run_239 : decode cX28_run 239 = .ok (.getfield 176, 3) := dk_180 0 176 (dk_at dksX28_run_10 4 rfl rfl)
theorem dX28_run_242 : decode cX28_run 242 = .ok (.ireturn, 1) := dk_172 (dk_at dksX28_run_10 7 rfl rfl)
abbrev cX28_fill : ByteArray := prog_2_method_24_code
def yX28_fill : MethodName := ⟨RX28, "fill", "()J"⟩
def dkwX28_fill_4 : List UInt8 := [80, 132, 4, 1, 167, 255, 198, 132, 1, 255, 167, 255, 163, 42, 180, 0, 38, 3, 2, 184, 0, 143, 47, 173]
abbrev dktX28_fill_4 : List UInt8 := dkwX28_fill_4 ++ []
def dkwX28_fill_3 : List UInt8 := [153, 0, 25, 42, 180, 0, 38, 27, 21, 4, 184, 0, 143, 32, 42, 27, 21, 4, 182, 0, 146, 184, 0, 150]
abbrev dktX28_fill_3 : List UInt8 := dkwX28_fill_3 ++ dktX28_fill_4
def dkwX28_fill_2 : List UInt8 := [167, 0, 7, 42, 180, 0, 58, 162, 0, 47, 21, 4, 2, 159, 0, 13, 42, 27, 21, 4, 182, 0, 136]
abbrev dktX28_fill_2 : List UInt8 := dkwX28_fill_2 ++ dktX28_fill_3
def dkwX28_fill_1 : List UInt8 := [182, 0, 140, 65, 27, 154, 0, 7, 2, 167, 0, 4, 3, 54, 4, 21, 4, 27, 154, 0, 7, 3]
abbrev dktX28_fill_1 : List UInt8 := dkwX28_fill_1 ++ dktX28_fill_2
def dkwX28_fill_0 : List UInt8 := [4, 42, 180, 0, 58, 120, 4, 100, 60, 27, 155, 0, 95, 42, 27, 182, 0, 133, 153, 0, 81, 42, 27]
abbrev dktX28_fill_0 : List UInt8 := dkwX28_fill_0 ++ dktX28_fill_1
theorem dksX28_fill_0 : cX28_fill.data.toList.drop 0 = dktX28_fill_0 := by decide +kernel
theorem dksX28_fill_1 : cX28_fill.data.toList.drop 23 = dktX28_fill_1 := dk_seg dksX28_fill_0 23 rfl rfl
theorem dksX28_fill_2 : cX28_fill.data.toList.drop 45 = dktX28_fill_2 := dk_seg dksX28_fill_1 22 rfl rfl
theorem dksX28_fill_3 : cX28_fill.data.toList.drop 68 = dktX28_fill_3 := dk_seg dksX28_fill_2 23 rfl rfl
theorem dksX28_fill_4 : cX28_fill.data.toList.drop 92 = dktX28_fill_4 := dk_seg dksX28_fill_3 24 rfl rfl
theorem dX28_fill_0 : decode cX28_fill 0 = .ok (.iconst 1, 1) := dk_4 (dk_at dksX28_fill_0 0 rfl rfl)
theorem dX28_fill_1 : decode cX28_fill 1 = .ok (.aload_n 0, 1) := dk_42 (dk_at dksX28_fill_0 1 rfl rfl)
theorem dX28_fill_2 : decode cX28_fill 2 = .ok (.getfield 58, 3) := dk_180 0 58 (dk_at dksX28_fill_0 2 rfl rfl)
theorem dX28_fill_5 : decode cX28_fill 5 = .ok (.ishl, 1) := dk_120 (dk_at dksX28_fill_0 5 rfl rfl)
theorem dX28_fill_6 : decode cX28_fill 6 = .ok (.iconst 1, 1) := dk_4 (dk_at dksX28_fill_0 6 rfl rfl)
theorem dX28_fill_7 : decode cX28_fill 7 = .ok (.isub, 1) := dk_100 (dk_at dksX28_fill_0 7 rfl rfl)
theorem dX28_fill_8 : decode cX28_fill 8 = .ok (.istore_n 1, 1) := dk_60 (dk_at dksX28_fill_0 8 rfl rfl)
theorem dX28_fill_9 : decode cX28_fill 9 = .ok (.iload_n 1, 1) := dk_27 (dk_at dksX28_fill_0 9 rfl rfl)
theorem dX28_fill_10 : decode cX28_fill 10 = .ok (.ifCond .lt 95, 3) := dk_155 0 95 (dk_at dksX28_fill_0 10 rfl rfl)
theorem dX28_fill_13 : decode cX28_fill 13 = .ok (.aload_n 0, 1) := dk_42 (dk_at dksX28_fill_0 13 rfl rfl)
theorem dX28_fill_14 : decode cX28_fill 14 = .ok (.iload_n 1, 1) := dk_27 (dk_at dksX28_fill_0 14 rfl rfl)
theorem dX28_fill_15 : decode cX28_fill 15 = .ok (.invokevirtual 133, 3) := dk_182 0 133 (dk_at dksX28_fill_0 15 rfl rfl)
theorem dX28_fill_18 : decode cX28_fill 18 = .ok (.ifCond .eq 81, 3) := dk_153 0 81 (dk_at dksX28_fill_0 18 rfl rfl)
theorem dX28_fill_21 : decode cX28_fill 21 = .ok (.aload_n 0, 1) := dk_42 (dk_at dksX28_fill_0 21 rfl rfl)
theorem dX28_fill_22 : decode cX28_fill 22 = .ok (.iload_n 1, 1) := dk_27 (dk_at dksX28_fill_0 22 rfl rfl)
theorem dX28_fill_23 : decode cX28_fill 23 = .ok (.invokevirtual 140, 3) := dk_182 0 140 (dk_at dksX28_fill_1 0 rfl rfl)
theorem dX28_fill_26 : decode cX28_fill 26 = .ok (.lstore_n 2, 1) := dk_65 (dk_at dksX28_fill_1 3 rfl rfl)
theorem dX28_fill_27 : decode cX28_fill 27 = .ok (.iload_n 1, 1) := dk_27 (dk_at dksX28_fill_1 4 rfl rfl)
theorem dX28_fill_28 : decode cX28_fill 28 = .ok (.ifCond .ne 7, 3) := dk_154 0 7 (dk_at dksX28_fill_1 5 rfl rfl)
theorem dX28_fill_31 : decode cX28_fill 31 = .ok (.iconst (-1), 1) := dk_2 (dk_at dksX28_fill_1 8 rfl rfl)
theorem dX28_fill_32 : decode cX28_fill 32 = .ok (.goto 4, 3) := dk_167 0 4 (dk_at dksX28_fill_1 9 rfl rfl)
theorem dX28_fill_35 : decode cX28_fill 35 = .ok (.iconst 0, 1) := dk_3 (dk_at dksX28_fill_1 12 rfl rfl)
theorem dX28_fill_36 : decode cX28_fill 36 = .ok (.istore 4, 2) := dk_54 4 (dk_at dksX28_fill_1 13 rfl rfl)
theorem dX28_fill_38 : decode cX28_fill 38 = .ok (.iload 4, 2) := dk_21 4 (dk_at dksX28_fill_1 15 rfl rfl)
theorem dX28_fill_40 : decode cX28_fill 40 = .ok (.iload_n 1, 1) := dk_27 (dk_at dksX28_fill_1 17 rfl rfl)
theorem dX28_fill_41 : decode cX28_fill 41 = .ok (.ifCond .ne 7, 3) := dk_154 0 7 (dk_at dksX28_fill_1 18 rfl rfl)
theorem dX28_fill_44 : decode cX28_fill 44 = .ok (.iconst 0, 1) := dk_3 (dk_at dksX28_fill_1 21 rfl rfl)
theorem dX28_fill_45 : decode cX28_fill 45 = .ok (.goto 7, 3) := dk_167 0 7 (dk_at dksX28_fill_2 0 rfl rfl)
theorem dX28_fill_48 : decode cX28_fill 48 = .ok (.aload_n 0, 1) := dk_42 (dk_at dksX28_fill_2 3 rfl rfl)
theorem dX28_fill_49 : decode cX28_fill 49 = .ok (.getfield 58, 3) := dk_180 0 58 (dk_at dksX28_fill_2 4 rfl rfl)
theorem dX28_fill_52 : decode cX28_fill 52 = .ok (.if_icmp .ge 47, 3) := dk_162 0 47 (dk_at dksX28_fill_2 7 rfl rfl)
theorem dX28_fill_55 : decode cX28_fill 55 = .ok (.iload 4, 2) := dk_21 4 (dk_at dksX28_fill_2 10 rfl rfl)
theorem dX28_fill_57 : decode cX28_fill 57 = .ok (.iconst (-1), 1) := dk_2 (dk_at dksX28_fill_2 12 rfl rfl)
theorem dX28_fill_58 : decode cX28_fill 58 = .ok (.if_icmp .eq 13, 3) := dk_159 0 13 (dk_at dksX28_fill_2 13 rfl rfl)
theorem dX28_fill_61 : decode cX28_fill 61 = .ok (.aload_n 0, 1) := dk_42 (dk_at dksX28_fill_2 16 rfl rfl)
theorem dX28_fill_62 : decode cX28_fill 62 = .ok (.iload_n 1, 1) := dk_27 (dk_at dksX28_fill_2 17 rfl rfl)
theorem dX28_fill_63 : decode cX28_fill 63 = .ok (.iload 4, 2) := dk_21 4 (dk_at dksX28_fill_2 18 rfl rfl)
theorem dX28_fill_65 : decode cX28_fill 65 = .ok (.invokevirtual 136, 3) := dk_182 0 136 (dk_at dksX28_fill_2 20 rfl rfl)
theorem dX28_fill_68 : decode cX28_fill 68 = .ok (.ifCond .eq 25, 3) := dk_153 0 25 (dk_at dksX28_fill_3 0 rfl rfl)
theorem dX28_fill_71 : decode cX28_fill 71 = .ok (.aload_n 0, 1) := dk_42 (dk_at dksX28_fill_3 3 rfl rfl)
theorem dX28_fill_72 : decode cX28_fill 72 = .ok (.getfield 38, 3) := dk_180 0 38 (dk_at dksX28_fill_3 4 rfl rfl)
theorem dX28_fill_75 : decode cX28_fill 75 = .ok (.iload_n 1, 1) := dk_27 (dk_at dksX28_fill_3 7 rfl rfl)
theorem dX28_fill_76 : decode cX28_fill 76 = .ok (.iload 4, 2) := dk_21 4 (dk_at dksX28_fill_3 8 rfl rfl)
theorem dX28_fill_78 : decode cX28_fill 78 = .ok (.invokestatic 143, 3) := dk_184 0 143 (dk_at dksX28_fill_3 10 rfl rfl)
theorem dX28_fill_81 : decode cX28_fill 81 = .ok (.lload_n 2, 1) := dk_32 (dk_at dksX28_fill_3 13 rfl rfl)
theorem dX28_fill_82 : decode cX28_fill 82 = .ok (.aload_n 0, 1) := dk_42 (dk_at dksX28_fill_3 14 rfl rfl)
theorem dX28_fill_83 : decode cX28_fill 83 = .ok (.iload_n 1, 1) := dk_27 (dk_at dksX28_fill_3 15 rfl rfl)
theorem dX28_fill_84 : decode cX28_fill 84 = .ok (.iload 4, 2) := dk_21 4 (dk_at dksX28_fill_3 16 rfl rfl)
theorem dX28_fill_86 : decode cX28_fill 86 = .ok (.invokevirtual 146, 3) := dk_182 0 146 (dk_at dksX28_fill_3 18 rfl rfl)
theorem dX28_fill_89 : decode cX28_fill 89 = .ok (.invokestatic 150, 3) := dk_184 0 150 (dk_at dksX28_fill_3 21 rfl rfl)
theorem dX28_fill_92 : decode cX28_fill 92 = .ok (.lastore, 1) := dk_80 (dk_at dksX28_fill_4 0 rfl rfl)
theorem dX28_fill_93 : decode cX28_fill 93 = .ok (.iinc 4 1, 3) := dk_132 4 1 (dk_at dksX28_fill_4 1 rfl rfl)
theorem dX28_fill_96 : decode cX28_fill 96 = .ok (.goto (-58), 3) := dk_167 255 198 (dk_at dksX28_fill_4 4 rfl rfl)
theorem dX28_fill_99 : decode cX28_fill 99 = .ok (.iinc 1 (-1), 3) := dk_132 1 255 (dk_at dksX28_fill_4 7 rfl rfl)
theorem dX28_fill_102 : decode cX28_fill 102 = .ok (.goto (-93), 3) := dk_167 255 163 (dk_at dksX28_fill_4 10 rfl rfl)
theorem dX28_fill_105 : decode cX28_fill 105 = .ok (.aload_n 0, 1) := dk_42 (dk_at dksX28_fill_4 13 rfl rfl)
theorem dX28_fill_106 : decode cX28_fill 106 = .ok (.getfield 38, 3) := dk_180 0 38 (dk_at dksX28_fill_4 14 rfl rfl)
theorem dX28_fill_109 : decode cX28_fill 109 = .ok (.iconst 0, 1) := dk_3 (dk_at dksX28_fill_4 17 rfl rfl)
theorem dX28_fill_110 : decode cX28_fill 110 = .ok (.iconst (-1), 1) := dk_2 (dk_at dksX28_fill_4 18 rfl rfl)
theorem dX28_fill_111 : decode cX28_fill 111 = .ok (.invokestatic 143, 3) := dk_184 0 143 (dk_at dksX28_fill_4 19 rfl rfl)
theorem dX28_fill_114 : decode cX28_fill 114 = .ok (.laload, 1) := dk_47 (dk_at dksX28_fill_4 22 rfl rfl)
theorem dX28_fill_115 : decode cX28_fill 115 = .ok (.lreturn, 1) := dk_173 (dk_at dksX28_fill_4 23 rfl rfl)
abbrev cX28_counts : ByteArray := prog_2_method_17_code
def yX28_counts : MethodName := ⟨RX28, "counts", "(I)J"⟩
def dkwX28_counts_4 : List UInt8 := [133, 105, 97, 173]
abbrev dktX28_counts_4 : List UInt8 := dkwX28_counts_4 ++ []
def dkwX28_counts_3 : List UInt8 := [54, 6, 21, 6, 156, 0, 8, 22, 4, 167, 0, 18, 22, 4, 20, 0, 117, 42, 180, 0, 35, 21, 6, 46]
abbrev dktX28_counts_3 : List UInt8 := dkwX28_counts_3 ++ dktX28_counts_4
def dkwX28_counts_2 : List UInt8 := [167, 0, 4, 9, 97, 55, 4, 132, 6, 1, 167, 255, 221, 42, 17, 15, 255, 28, 2, 130, 126, 182, 0, 108]
abbrev dktX28_counts_2 : List UInt8 := dkwX28_counts_2 ++ dktX28_counts_3
def dkwX28_counts_1 : List UInt8 := [16, 12, 162, 0, 34, 22, 4, 29, 21, 6, 122, 4, 126, 4, 160, 0, 12, 42, 21, 6, 182, 0, 125]
abbrev dktX28_counts_1 : List UInt8 := dkwX28_counts_1 ++ dktX28_counts_2
def dkwX28_counts_0 : List UInt8 := [42, 27, 182, 0, 119, 61, 28, 42, 27, 182, 0, 122, 2, 130, 126, 62, 9, 55, 4, 3, 54, 6, 21, 6]
abbrev dktX28_counts_0 : List UInt8 := dkwX28_counts_0 ++ dktX28_counts_1
theorem dksX28_counts_0 : cX28_counts.data.toList.drop 0 = dktX28_counts_0 := by decide +kernel
theorem dksX28_counts_1 : cX28_counts.data.toList.drop 24 = dktX28_counts_1 := dk_seg dksX28_counts_0 24 rfl rfl
theorem dksX28_counts_2 : cX28_counts.data.toList.drop 47 = dktX28_counts_2 := dk_seg dksX28_counts_1 23 rfl rfl
theorem dksX28_counts_3 : cX28_counts.data.toList.drop 71 = dktX28_counts_3 := dk_seg dksX28_counts_2 24 rfl rfl
theorem dksX28_counts_4 : cX28_counts.data.toList.drop 95 = dktX28_counts_4 := dk_seg dksX28_counts_3 24 rfl rfl
theorem dX28_counts_0 : decode cX28_counts 0 = .ok (.aload_n 0, 1) := dk_42 (dk_at dksX28_counts_0 0 rfl rfl)
theorem dX28_counts_1 : decode cX28_counts 1 = .ok (.iload_n 1, 1) := dk_27 (dk_at dksX28_counts_0 1 rfl rfl)
theorem dX28_counts_2 : decode cX28_counts 2 = .ok (.invokevirtual 119, 3) := dk_182 0 119 (dk_at dksX28_counts_0 2 rfl rfl)
theorem dX28_counts_5 : decode cX28_counts 5 = .ok (.istore_n 2, 1) := dk_61 (dk_at dksX28_counts_0 5 rfl rfl)
theorem dX28_counts_6 : decode cX28_counts 6 = .ok (.iload_n 2, 1) := dk_28 (dk_at dksX28_counts_0 6 rfl rfl)
theorem dX28_counts_7 : decode cX28_counts 7 = .ok (.aload_n 0, 1) := dk_42 (dk_at dksX28_counts_0 7 rfl rfl)
theorem dX28_counts_8 : decode cX28_counts 8 = .ok (.iload_n 1, 1) := dk_27 (dk_at dksX28_counts_0 8 rfl rfl)
theorem dX28_counts_9 : decode cX28_counts 9 = .ok (.invokevirtual 122, 3) := dk_182 0 122 (dk_at dksX28_counts_0 9 rfl rfl)
theorem dX28_counts_12 : decode cX28_counts 12 = .ok (.iconst (-1), 1) := dk_2 (dk_at dksX28_counts_0 12 rfl rfl)
theorem dX28_counts_13 : decode cX28_counts 13 = .ok (.ixor, 1) := dk_130 (dk_at dksX28_counts_0 13 rfl rfl)
theorem dX28_counts_14 : decode cX28_counts 14 = .ok (.iand, 1) := dk_126 (dk_at dksX28_counts_0 14 rfl rfl)
theorem dX28_counts_15 : decode cX28_counts 15 = .ok (.istore_n 3, 1) := dk_62 (dk_at dksX28_counts_0 15 rfl rfl)
theorem dX28_counts_16 : decode cX28_counts 16 = .ok (.lconst 0, 1) := dk_9 (dk_at dksX28_counts_0 16 rfl rfl)
theorem dX28_counts_17 : decode cX28_counts 17 = .ok (.lstore 4, 2) := dk_55 4 (dk_at dksX28_counts_0 17 rfl rfl)
theorem dX28_counts_19 : decode cX28_counts 19 = .ok (.iconst 0, 1) := dk_3 (dk_at dksX28_counts_0 19 rfl rfl)
theorem dX28_counts_20 : decode cX28_counts 20 = .ok (.istore 6, 2) := dk_54 6 (dk_at dksX28_counts_0 20 rfl rfl)
theorem dX28_counts_22 : decode cX28_counts 22 = .ok (.iload 6, 2) := dk_21 6 (dk_at dksX28_counts_0 22 rfl rfl)
theorem dX28_counts_24 : decode cX28_counts 24 = .ok (.bipush 12, 2) := dk_16 12 (dk_at dksX28_counts_1 0 rfl rfl)
theorem dX28_counts_26 : decode cX28_counts 26 = .ok (.if_icmp .ge 34, 3) := dk_162 0 34 (dk_at dksX28_counts_1 2 rfl rfl)
theorem dX28_counts_29 : decode cX28_counts 29 = .ok (.lload 4, 2) := dk_22 4 (dk_at dksX28_counts_1 5 rfl rfl)
theorem dX28_counts_31 : decode cX28_counts 31 = .ok (.iload_n 3, 1) := dk_29 (dk_at dksX28_counts_1 7 rfl rfl)
theorem dX28_counts_32 : decode cX28_counts 32 = .ok (.iload 6, 2) := dk_21 6 (dk_at dksX28_counts_1 8 rfl rfl)
theorem dX28_counts_34 : decode cX28_counts 34 = .ok (.ishr, 1) := dk_122 (dk_at dksX28_counts_1 10 rfl rfl)
theorem dX28_counts_35 : decode cX28_counts 35 = .ok (.iconst 1, 1) := dk_4 (dk_at dksX28_counts_1 11 rfl rfl)
theorem dX28_counts_36 : decode cX28_counts 36 = .ok (.iand, 1) := dk_126 (dk_at dksX28_counts_1 12 rfl rfl)
theorem dX28_counts_37 : decode cX28_counts 37 = .ok (.iconst 1, 1) := dk_4 (dk_at dksX28_counts_1 13 rfl rfl)
theorem dX28_counts_38 : decode cX28_counts 38 = .ok (.if_icmp .ne 12, 3) := dk_160 0 12 (dk_at dksX28_counts_1 14 rfl rfl)
theorem dX28_counts_41 : decode cX28_counts 41 = .ok (.aload_n 0, 1) := dk_42 (dk_at dksX28_counts_1 17 rfl rfl)
theorem dX28_counts_42 : decode cX28_counts 42 = .ok (.iload 6, 2) := dk_21 6 (dk_at dksX28_counts_1 18 rfl rfl)
theorem dX28_counts_44 : decode cX28_counts 44 = .ok (.invokevirtual 125, 3) := dk_182 0 125 (dk_at dksX28_counts_1 20 rfl rfl)
theorem dX28_counts_47 : decode cX28_counts 47 = .ok (.goto 4, 3) := dk_167 0 4 (dk_at dksX28_counts_2 0 rfl rfl)
theorem dX28_counts_50 : decode cX28_counts 50 = .ok (.lconst 0, 1) := dk_9 (dk_at dksX28_counts_2 3 rfl rfl)
theorem dX28_counts_51 : decode cX28_counts 51 = .ok (.ladd, 1) := dk_97 (dk_at dksX28_counts_2 4 rfl rfl)
theorem dX28_counts_52 : decode cX28_counts 52 = .ok (.lstore 4, 2) := dk_55 4 (dk_at dksX28_counts_2 5 rfl rfl)
theorem dX28_counts_54 : decode cX28_counts 54 = .ok (.iinc 6 1, 3) := dk_132 6 1 (dk_at dksX28_counts_2 7 rfl rfl)
theorem dX28_counts_57 : decode cX28_counts 57 = .ok (.goto (-35), 3) := dk_167 255 221 (dk_at dksX28_counts_2 10 rfl rfl)
theorem dX28_counts_60 : decode cX28_counts 60 = .ok (.aload_n 0, 1) := dk_42 (dk_at dksX28_counts_2 13 rfl rfl)
theorem dX28_counts_61 : decode cX28_counts 61 = .ok (.sipush 4095, 3) := dk_17 15 255 (dk_at dksX28_counts_2 14 rfl rfl)
theorem dX28_counts_64 : decode cX28_counts 64 = .ok (.iload_n 2, 1) := dk_28 (dk_at dksX28_counts_2 17 rfl rfl)
theorem dX28_counts_65 : decode cX28_counts 65 = .ok (.iconst (-1), 1) := dk_2 (dk_at dksX28_counts_2 18 rfl rfl)
theorem dX28_counts_66 : decode cX28_counts 66 = .ok (.ixor, 1) := dk_130 (dk_at dksX28_counts_2 19 rfl rfl)
theorem dX28_counts_67 : decode cX28_counts 67 = .ok (.iand, 1) := dk_126 (dk_at dksX28_counts_2 20 rfl rfl)
theorem dX28_counts_68 : decode cX28_counts 68 = .ok (.invokevirtual 108, 3) := dk_182 0 108 (dk_at dksX28_counts_2 21 rfl rfl)
theorem dX28_counts_71 : decode cX28_counts 71 = .ok (.istore 6, 2) := dk_54 6 (dk_at dksX28_counts_3 0 rfl rfl)
theorem dX28_counts_73 : decode cX28_counts 73 = .ok (.iload 6, 2) := dk_21 6 (dk_at dksX28_counts_3 2 rfl rfl)
theorem dX28_counts_75 : decode cX28_counts 75 = .ok (.ifCond .ge 8, 3) := dk_156 0 8 (dk_at dksX28_counts_3 4 rfl rfl)
theorem dX28_counts_78 : decode cX28_counts 78 = .ok (.lload 4, 2) := dk_22 4 (dk_at dksX28_counts_3 7 rfl rfl)
theorem dX28_counts_80 : decode cX28_counts 80 = .ok (.goto 18, 3) := dk_167 0 18 (dk_at dksX28_counts_3 9 rfl rfl)
theorem dX28_counts_83 : decode cX28_counts 83 = .ok (.lload 4, 2) := dk_22 4 (dk_at dksX28_counts_3 12 rfl rfl)
theorem dX28_counts_85 : decode cX28_counts 85 = .ok (.ldc2_w 117, 3) := dk_20 0 117 (dk_at dksX28_counts_3 14 rfl rfl)
theorem dX28_counts_88 : decode cX28_counts 88 = .ok (.aload_n 0, 1) := dk_42 (dk_at dksX28_counts_3 17 rfl rfl)
theorem dX28_counts_89 : decode cX28_counts 89 = .ok (.getfield 35, 3) := dk_180 0 35 (dk_at dksX28_counts_3 18 rfl rfl)
theorem dX28_counts_92 : decode cX28_counts 92 = .ok (.iload 6, 2) := dk_21 6 (dk_at dksX28_counts_3 21 rfl rfl)
theorem dX28_counts_94 : decode cX28_counts 94 = .ok (.iaload, 1) := dk_46 (dk_at dksX28_counts_3 23 rfl rfl)
theorem dX28_counts_95 : decode cX28_counts 95 = .ok (.i2l, 1) := dk_133 (dk_at dksX28_counts_4 0 rfl rfl)
theorem dX28_counts_96 : decode cX28_counts 96 = .ok (.lmul, 1) := dk_105 (dk_at dksX28_counts_4 1 rfl rfl)
theorem dX28_counts_97 : decode cX28_counts 97 = .ok (.ladd, 1) := dk_97 (dk_at dksX28_counts_4 2 rfl rfl)
theorem dX28_counts_98 : decode cX28_counts 98 = .ok (.lreturn, 1) := dk_173 (dk_at dksX28_counts_4 3 rfl rfl)
abbrev cX28_freeBy : ByteArray := prog_2_method_14_code
def yX28_freeBy : MethodName := ⟨RX28, "freeBy", "(I)I"⟩
def dkwX28_freeBy_2 : List UInt8 := [167, 0, 4, 3, 128, 61, 132, 3, 1, 167, 255, 206, 28, 172]
abbrev dktX28_freeBy_2 : List UInt8 := dkwX28_freeBy_2 ++ []
def dkwX28_freeBy_1 : List UInt8 := [180, 0, 9, 29, 50, 180, 0, 75, 155, 0, 17, 4, 42, 180, 0, 9, 29, 50, 180, 0, 75, 120]
abbrev dktX28_freeBy_1 : List UInt8 := dkwX28_freeBy_1 ++ dktX28_freeBy_2
def dkwX28_freeBy_0 : List UInt8 := [3, 61, 3, 62, 29, 42, 180, 0, 58, 162, 0, 48, 28, 27, 29, 122, 4, 126, 4, 160, 0, 29, 42]
abbrev dktX28_freeBy_0 : List UInt8 := dkwX28_freeBy_0 ++ dktX28_freeBy_1
theorem dksX28_freeBy_0 : cX28_freeBy.data.toList.drop 0 = dktX28_freeBy_0 := by decide +kernel
theorem dksX28_freeBy_1 : cX28_freeBy.data.toList.drop 23 = dktX28_freeBy_1 := dk_seg dksX28_freeBy_0 23 rfl rfl
theorem dksX28_freeBy_2 : cX28_freeBy.data.toList.drop 45 = dktX28_freeBy_2 := dk_seg dksX28_freeBy_1 22 rfl rfl
theorem dX28_freeBy_0 : decode cX28_freeBy 0 = .ok (.iconst 0, 1) := dk_3 (dk_at dksX28_freeBy_0 0 rfl rfl)
theorem dX28_freeBy_1 : decode cX28_freeBy 1 = .ok (.istore_n 2, 1) := dk_61 (dk_at dksX28_freeBy_0 1 rfl rfl)
theorem dX28_freeBy_2 : decode cX28_freeBy 2 = .ok (.iconst 0, 1) := dk_3 (dk_at dksX28_freeBy_0 2 rfl rfl)
theorem dX28_freeBy_3 : decode cX28_freeBy 3 = .ok (.istore_n 3, 1) := dk_62 (dk_at dksX28_freeBy_0 3 rfl rfl)
theorem dX28_freeBy_4 : decode cX28_freeBy 4 = .ok (.iload_n 3, 1) := dk_29 (dk_at dksX28_freeBy_0 4 rfl rfl)
theorem dX28_freeBy_5 : decode cX28_freeBy 5 = .ok (.aload_n 0, 1) := dk_42 (dk_at dksX28_freeBy_0 5 rfl rfl)
theorem dX28_freeBy_6 : decode cX28_freeBy 6 = .ok (.getfield 58, 3) := dk_180 0 58 (dk_at dksX28_freeBy_0 6 rfl rfl)
theorem dX28_freeBy_9 : decode cX28_freeBy 9 = .ok (.if_icmp .ge 48, 3) := dk_162 0 48 (dk_at dksX28_freeBy_0 9 rfl rfl)
theorem dX28_freeBy_12 : decode cX28_freeBy 12 = .ok (.iload_n 2, 1) := dk_28 (dk_at dksX28_freeBy_0 12 rfl rfl)
theorem dX28_freeBy_13 : decode cX28_freeBy 13 = .ok (.iload_n 1, 1) := dk_27 (dk_at dksX28_freeBy_0 13 rfl rfl)
theorem dX28_freeBy_14 : decode cX28_freeBy 14 = .ok (.iload_n 3, 1) := dk_29 (dk_at dksX28_freeBy_0 14 rfl rfl)
theorem dX28_freeBy_15 : decode cX28_freeBy 15 = .ok (.ishr, 1) := dk_122 (dk_at dksX28_freeBy_0 15 rfl rfl)
theorem dX28_freeBy_16 : decode cX28_freeBy 16 = .ok (.iconst 1, 1) := dk_4 (dk_at dksX28_freeBy_0 16 rfl rfl)
theorem dX28_freeBy_17 : decode cX28_freeBy 17 = .ok (.iand, 1) := dk_126 (dk_at dksX28_freeBy_0 17 rfl rfl)
theorem dX28_freeBy_18 : decode cX28_freeBy 18 = .ok (.iconst 1, 1) := dk_4 (dk_at dksX28_freeBy_0 18 rfl rfl)
theorem dX28_freeBy_19 : decode cX28_freeBy 19 = .ok (.if_icmp .ne 29, 3) := dk_160 0 29 (dk_at dksX28_freeBy_0 19 rfl rfl)
theorem dX28_freeBy_22 : decode cX28_freeBy 22 = .ok (.aload_n 0, 1) := dk_42 (dk_at dksX28_freeBy_0 22 rfl rfl)
theorem dX28_freeBy_23 : decode cX28_freeBy 23 = .ok (.getfield 9, 3) := dk_180 0 9 (dk_at dksX28_freeBy_1 0 rfl rfl)
theorem dX28_freeBy_26 : decode cX28_freeBy 26 = .ok (.iload_n 3, 1) := dk_29 (dk_at dksX28_freeBy_1 3 rfl rfl)
theorem dX28_freeBy_27 : decode cX28_freeBy 27 = .ok (.aaload, 1) := dk_50 (dk_at dksX28_freeBy_1 4 rfl rfl)
theorem dX28_freeBy_28 : decode cX28_freeBy 28 = .ok (.getfield 75, 3) := dk_180 0 75 (dk_at dksX28_freeBy_1 5 rfl rfl)
theorem dX28_freeBy_31 : decode cX28_freeBy 31 = .ok (.ifCond .lt 17, 3) := dk_155 0 17 (dk_at dksX28_freeBy_1 8 rfl rfl)
theorem dX28_freeBy_34 : decode cX28_freeBy 34 = .ok (.iconst 1, 1) := dk_4 (dk_at dksX28_freeBy_1 11 rfl rfl)
theorem dX28_freeBy_35 : decode cX28_freeBy 35 = .ok (.aload_n 0, 1) := dk_42 (dk_at dksX28_freeBy_1 12 rfl rfl)
theorem dX28_freeBy_36 : decode cX28_freeBy 36 = .ok (.getfield 9, 3) := dk_180 0 9 (dk_at dksX28_freeBy_1 13 rfl rfl)
theorem dX28_freeBy_39 : decode cX28_freeBy 39 = .ok (.iload_n 3, 1) := dk_29 (dk_at dksX28_freeBy_1 16 rfl rfl)
theorem dX28_freeBy_40 : decode cX28_freeBy 40 = .ok (.aaload, 1) := dk_50 (dk_at dksX28_freeBy_1 17 rfl rfl)
theorem dX28_freeBy_41 : decode cX28_freeBy 41 = .ok (.getfield 75, 3) := dk_180 0 75 (dk_at dksX28_freeBy_1 18 rfl rfl)
theorem dX28_freeBy_44 : decode cX28_freeBy 44 = .ok (.ishl, 1) := dk_120 (dk_at dksX28_freeBy_1 21 rfl rfl)
theorem dX28_freeBy_45 : decode cX28_freeBy 45 = .ok (.goto 4, 3) := dk_167 0 4 (dk_at dksX28_freeBy_2 0 rfl rfl)
theorem dX28_freeBy_48 : decode cX28_freeBy 48 = .ok (.iconst 0, 1) := dk_3 (dk_at dksX28_freeBy_2 3 rfl rfl)
theorem dX28_freeBy_49 : decode cX28_freeBy 49 = .ok (.ior, 1) := dk_128 (dk_at dksX28_freeBy_2 4 rfl rfl)
theorem dX28_freeBy_50 : decode cX28_freeBy 50 = .ok (.istore_n 2, 1) := dk_61 (dk_at dksX28_freeBy_2 5 rfl rfl)
theorem dX28_freeBy_51 : decode cX28_freeBy 51 = .ok (.iinc 3 1, 3) := dk_132 3 1 (dk_at dksX28_freeBy_2 6 rfl rfl)
theorem dX28_freeBy_54 : decode cX28_freeBy 54 = .ok (.goto (-50), 3) := dk_167 255 206 (dk_at dksX28_freeBy_2 9 rfl rfl)
theorem dX28_freeBy_57 : decode cX28_freeBy 57 = .ok (.iload_n 2, 1) := dk_28 (dk_at dksX28_freeBy_2 12 rfl rfl)
theorem dX28_freeBy_58 : decode cX28_freeBy 58 = .ok (.ireturn, 1) := dk_172 (dk_at dksX28_freeBy_2 13 rfl rfl)
abbrev cX28_brokenBy : ByteArray := prog_2_method_15_code
def yX28_brokenBy : MethodName := ⟨RX28, "brokenBy", "(I)I"⟩
def dkwX28_brokenBy_2 : List UInt8 := [42, 180, 0, 9, 29, 50, 180, 0, 75, 120, 167, 0, 4, 3, 128, 61, 132, 3, 1, 167, 255, 194, 28, 172]
abbrev dktX28_brokenBy_2 : List UInt8 := dkwX28_brokenBy_2 ++ []
def dkwX28_brokenBy_1 : List UInt8 := [180, 0, 9, 29, 50, 180, 0, 112, 153, 0, 29, 42, 180, 0, 9, 29, 50, 180, 0, 75, 155, 0, 17, 4]
abbrev dktX28_brokenBy_1 : List UInt8 := dkwX28_brokenBy_1 ++ dktX28_brokenBy_2
def dkwX28_brokenBy_0 : List UInt8 := [3, 61, 3, 62, 29, 42, 180, 0, 58, 162, 0, 60, 28, 27, 29, 122, 4, 126, 4, 160, 0, 41, 42]
abbrev dktX28_brokenBy_0 : List UInt8 := dkwX28_brokenBy_0 ++ dktX28_brokenBy_1
theorem dksX28_brokenBy_0 : cX28_brokenBy.data.toList.drop 0 = dktX28_brokenBy_0 := by decide +kernel
theorem dksX28_brokenBy_1 : cX28_brokenBy.data.toList.drop 23 = dktX28_brokenBy_1 := dk_seg dksX28_brokenBy_0 23 rfl rfl
theorem dksX28_brokenBy_2 : cX28_brokenBy.data.toList.drop 47 = dktX28_brokenBy_2 := dk_seg dksX28_brokenBy_1 24 rfl rfl
theorem dX28_brokenBy_0 : decode cX28_brokenBy 0 = .ok (.iconst 0, 1) := dk_3 (dk_at dksX28_brokenBy_0 0 rfl rfl)
theorem dX28_brokenBy_1 : decode cX28_brokenBy 1 = .ok (.istore_n 2, 1) := dk_61 (dk_at dksX28_brokenBy_0 1 rfl rfl)
theorem dX28_brokenBy_2 : decode cX28_brokenBy 2 = .ok (.iconst 0, 1) := dk_3 (dk_at dksX28_brokenBy_0 2 rfl rfl)
theorem dX28_brokenBy_3 : decode cX28_brokenBy 3 = .ok (.istore_n 3, 1) := dk_62 (dk_at dksX28_brokenBy_0 3 rfl rfl)
theorem dX28_brokenBy_4 : decode cX28_brokenBy 4 = .ok (.iload_n 3, 1) := dk_29 (dk_at dksX28_brokenBy_0 4 rfl rfl)
theorem dX28_brokenBy_5 : decode cX28_brokenBy 5 = .ok (.aload_n 0, 1) := dk_42 (dk_at dksX28_brokenBy_0 5 rfl rfl)
theorem dX28_brokenBy_6 : decode cX28_brokenBy 6 = .ok (.getfield 58, 3) := dk_180 0 58 (dk_at dksX28_brokenBy_0 6 rfl rfl)
theorem dX28_brokenBy_9 : decode cX28_brokenBy 9 = .ok (.if_icmp .ge 60, 3) := dk_162 0 60 (dk_at dksX28_brokenBy_0 9 rfl rfl)
theorem dX28_brokenBy_12 : decode cX28_brokenBy 12 = .ok (.iload_n 2, 1) := dk_28 (dk_at dksX28_brokenBy_0 12 rfl rfl)
theorem dX28_brokenBy_13 : decode cX28_brokenBy 13 = .ok (.iload_n 1, 1) := dk_27 (dk_at dksX28_brokenBy_0 13 rfl rfl)
theorem dX28_brokenBy_14 : decode cX28_brokenBy 14 = .ok (.iload_n 3, 1) := dk_29 (dk_at dksX28_brokenBy_0 14 rfl rfl)
theorem dX28_brokenBy_15 : decode cX28_brokenBy 15 = .ok (.ishr, 1) := dk_122 (dk_at dksX28_brokenBy_0 15 rfl rfl)
theorem dX28_brokenBy_16 : decode cX28_brokenBy 16 = .ok (.iconst 1, 1) := dk_4 (dk_at dksX28_brokenBy_0 16 rfl rfl)
theorem dX28_brokenBy_17 : decode cX28_brokenBy 17 = .ok (.iand, 1) := dk_126 (dk_at dksX28_brokenBy_0 17 rfl rfl)
theorem dX28_brokenBy_18 : decode cX28_brokenBy 18 = .ok (.iconst 1, 1) := dk_4 (dk_at dksX28_brokenBy_0 18 rfl rfl)
theorem dX28_brokenBy_19 : decode cX28_brokenBy 19 = .ok (.if_icmp .ne 41, 3) := dk_160 0 41 (dk_at dksX28_brokenBy_0 19 rfl rfl)
theorem dX28_brokenBy_22 : decode cX28_brokenBy 22 = .ok (.aload_n 0, 1) := dk_42 (dk_at dksX28_brokenBy_0 22 rfl rfl)
theorem dX28_brokenBy_23 : decode cX28_brokenBy 23 = .ok (.getfield 9, 3) := dk_180 0 9 (dk_at dksX28_brokenBy_1 0 rfl rfl)
theorem dX28_brokenBy_26 : decode cX28_brokenBy 26 = .ok (.iload_n 3, 1) := dk_29 (dk_at dksX28_brokenBy_1 3 rfl rfl)
theorem dX28_brokenBy_27 : decode cX28_brokenBy 27 = .ok (.aaload, 1) := dk_50 (dk_at dksX28_brokenBy_1 4 rfl rfl)
theorem dX28_brokenBy_28 : decode cX28_brokenBy 28 = .ok (.getfield 112, 3) := dk_180 0 112 (dk_at dksX28_brokenBy_1 5 rfl rfl)
theorem dX28_brokenBy_31 : decode cX28_brokenBy 31 = .ok (.ifCond .eq 29, 3) := dk_153 0 29 (dk_at dksX28_brokenBy_1 8 rfl rfl)
theorem dX28_brokenBy_34 : decode cX28_brokenBy 34 = .ok (.aload_n 0, 1) := dk_42 (dk_at dksX28_brokenBy_1 11 rfl rfl)
theorem dX28_brokenBy_35 : decode cX28_brokenBy 35 = .ok (.getfield 9, 3) := dk_180 0 9 (dk_at dksX28_brokenBy_1 12 rfl rfl)
theorem dX28_brokenBy_38 : decode cX28_brokenBy 38 = .ok (.iload_n 3, 1) := dk_29 (dk_at dksX28_brokenBy_1 15 rfl rfl)
theorem dX28_brokenBy_39 : decode cX28_brokenBy 39 = .ok (.aaload, 1) := dk_50 (dk_at dksX28_brokenBy_1 16 rfl rfl)
theorem dX28_brokenBy_40 : decode cX28_brokenBy 40 = .ok (.getfield 75, 3) := dk_180 0 75 (dk_at dksX28_brokenBy_1 17 rfl rfl)
theorem dX28_brokenBy_43 : decode cX28_brokenBy 43 = .ok (.ifCond .lt 17, 3) := dk_155 0 17 (dk_at dksX28_brokenBy_1 20 rfl rfl)
theorem dX28_brokenBy_46 : decode cX28_brokenBy 46 = .ok (.iconst 1, 1) := dk_4 (dk_at dksX28_brokenBy_1 23 rfl rfl)
theorem dX28_brokenBy_47 : decode cX28_brokenBy 47 = .ok (.aload_n 0, 1) := dk_42 (dk_at dksX28_brokenBy_2 0 rfl rfl)
theorem dX28_brokenBy_48 : decode cX28_brokenBy 48 = .ok (.getfield 9, 3) := dk_180 0 9 (dk_at dksX28_brokenBy_2 1 rfl rfl)
theorem dX28_brokenBy_51 : decode cX28_brokenBy 51 = .ok (.iload_n 3, 1) := dk_29 (dk_at dksX28_brokenBy_2 4 rfl rfl)
theorem dX28_brokenBy_52 : decode cX28_brokenBy 52 = .ok (.aaload, 1) := dk_50 (dk_at dksX28_brokenBy_2 5 rfl rfl)
theorem dX28_brokenBy_53 : decode cX28_brokenBy 53 = .ok (.getfield 75, 3) := dk_180 0 75 (dk_at dksX28_brokenBy_2 6 rfl rfl)
theorem dX28_brokenBy_56 : decode cX28_brokenBy 56 = .ok (.ishl, 1) := dk_120 (dk_at dksX28_brokenBy_2 9 rfl rfl)
theorem dX28_brokenBy_57 : decode cX28_brokenBy 57 = .ok (.goto 4, 3) := dk_167 0 4 (dk_at dksX28_brokenBy_2 10 rfl rfl)
theorem dX28_brokenBy_60 : decode cX28_brokenBy 60 = .ok (.iconst 0, 1) := dk_3 (dk_at dksX28_brokenBy_2 13 rfl rfl)
theorem dX28_brokenBy_61 : decode cX28_brokenBy 61 = .ok (.ior, 1) := dk_128 (dk_at dksX28_brokenBy_2 14 rfl rfl)
theorem dX28_brokenBy_62 : decode cX28_brokenBy 62 = .ok (.istore_n 2, 1) := dk_61 (dk_at dksX28_brokenBy_2 15 rfl rfl)
theorem dX28_brokenBy_63 : decode cX28_brokenBy 63 = .ok (.iinc 3 1, 3) := dk_132 3 1 (dk_at dksX28_brokenBy_2 16 rfl rfl)
theorem dX28_brokenBy_66 : decode cX28_brokenBy 66 = .ok (.goto (-62), 3) := dk_167 255 194 (dk_at dksX28_brokenBy_2 19 rfl rfl)
theorem dX28_brokenBy_69 : decode cX28_brokenBy 69 = .ok (.iload_n 2, 1) := dk_28 (dk_at dksX28_brokenBy_2 22 rfl rfl)
theorem dX28_brokenBy_70 : decode cX28_brokenBy 70 = .ok (.ireturn, 1) := dk_172 (dk_at dksX28_brokenBy_2 23 rfl rfl)
abbrev cX28_worthOf : ByteArray := prog_2_method_16_code
def yX28_worthOf : MethodName := ⟨RX28, "worthOf", "(I)J"⟩
def dkwX28_worthOf_0 : List UInt8 := [42, 180, 0, 25, 27, 46, 133, 42, 180, 0, 29, 27, 46, 133, 105, 173]
abbrev dktX28_worthOf_0 : List UInt8 := dkwX28_worthOf_0 ++ []
theorem dksX28_worthOf_0 : cX28_worthOf.data.toList.drop 0 = dktX28_worthOf_0 := by decide +kernel
theorem dX28_worthOf_0 : decode cX28_worthOf 0 = .ok (.aload_n 0, 1) := dk_42 (dk_at dksX28_worthOf_0 0 rfl rfl)
theorem dX28_worthOf_1 : decode cX28_worthOf 1 = .ok (.getfield 25, 3) := dk_180 0 25 (dk_at dksX28_worthOf_0 1 rfl rfl)
theorem dX28_worthOf_4 : decode cX28_worthOf 4 = .ok (.iload_n 1, 1) := dk_27 (dk_at dksX28_worthOf_0 4 rfl rfl)
theorem dX28_worthOf_5 : decode cX28_worthOf 5 = .ok (.iaload, 1) := dk_46 (dk_at dksX28_worthOf_0 5 rfl rfl)
theorem dX28_worthOf_6 : decode cX28_worthOf 6 = .ok (.i2l, 1) := dk_133 (dk_at dksX28_worthOf_0 6 rfl rfl)
theorem dX28_worthOf_7 : decode cX28_worthOf 7 = .ok (.aload_n 0, 1) := dk_42 (dk_at dksX28_worthOf_0 7 rfl rfl)
theorem dX28_worthOf_8 : decode cX28_worthOf 8 = .ok (.getfield 29, 3) := dk_180 0 29 (dk_at dksX28_worthOf_0 8 rfl rfl)
theorem dX28_worthOf_11 : decode cX28_worthOf 11 = .ok (.iload_n 1, 1) := dk_27 (dk_at dksX28_worthOf_0 11 rfl rfl)
theorem dX28_worthOf_12 : decode cX28_worthOf 12 = .ok (.iaload, 1) := dk_46 (dk_at dksX28_worthOf_0 12 rfl rfl)
theorem dX28_worthOf_13 : decode cX28_worthOf 13 = .ok (.i2l, 1) := dk_133 (dk_at dksX28_worthOf_0 13 rfl rfl)
theorem dX28_worthOf_14 : decode cX28_worthOf 14 = .ok (.lmul, 1) := dk_105 (dk_at dksX28_worthOf_0 14 rfl rfl)
theorem dX28_worthOf_15 : decode cX28_worthOf 15 = .ok (.lreturn, 1) := dk_173 (dk_at dksX28_worthOf_0 15 rfl rfl)
abbrev cX28_at : ByteArray := prog_2_method_20_code
def yX28_at : MethodName := ⟨RX28, "at", "(II)I"⟩
def dkwX28_at_0 : List UInt8 := [16, 11, 26, 104, 27, 2, 160, 0, 8, 16, 10, 167, 0, 4, 27, 96, 172]
abbrev dktX28_at_0 : List UInt8 := dkwX28_at_0 ++ []
theorem dksX28_at_0 : cX28_at.data.toList.drop 0 = dktX28_at_0 := by decide +kernel
theorem dX28_at_0 : decode cX28_at 0 = .ok (.bipush 11, 2) := dk_16 11 (dk_at dksX28_at_0 0 rfl rfl)
theorem dX28_at_2 : decode cX28_at 2 = .ok (.iload_n 0, 1) := dk_26 (dk_at dksX28_at_0 2 rfl rfl)
theorem dX28_at_3 : decode cX28_at 3 = .ok (.imul, 1) := dk_104 (dk_at dksX28_at_0 3 rfl rfl)
theorem dX28_at_4 : decode cX28_at 4 = .ok (.iload_n 1, 1) := dk_27 (dk_at dksX28_at_0 4 rfl rfl)
theorem dX28_at_5 : decode cX28_at 5 = .ok (.iconst (-1), 1) := dk_2 (dk_at dksX28_at_0 5 rfl rfl)
theorem dX28_at_6 : decode cX28_at 6 = .ok (.if_icmp .ne 8, 3) := dk_160 0 8 (dk_at dksX28_at_0 6 rfl rfl)
theorem dX28_at_9 : decode cX28_at 9 = .ok (.bipush 10, 2) := dk_16 10 (dk_at dksX28_at_0 9 rfl rfl)
theorem dX28_at_11 : decode cX28_at 11 = .ok (.goto 4, 3) := dk_167 0 4 (dk_at dksX28_at_0 11 rfl rfl)
theorem dX28_at_14 : decode cX28_at 14 = .ok (.iload_n 1, 1) := dk_27 (dk_at dksX28_at_0 14 rfl rfl)
theorem dX28_at_15 : decode cX28_at 15 = .ok (.iadd, 1) := dk_96 (dk_at dksX28_at_0 15 rfl rfl)
theorem dX28_at_16 : decode cX28_at 16 = .ok (.ireturn, 1) := dk_172 (dk_at dksX28_at_0 16 rfl rfl)
abbrev cX28_goOn : ByteArray := prog_2_method_25_code
def yX28_goOn : MethodName := ⟨RX28, "goOn", "(II)J"⟩
def dkwX28_goOn_2 : List UInt8 := [182, 0, 163, 101, 184, 0, 150, 66, 132, 5, 1, 167, 255, 205, 33, 173]
abbrev dktX28_goOn_2 : List UInt8 := dkwX28_goOn_2 ++ []
def dkwX28_goOn_1 : List UInt8 := [153, 0, 32, 33, 42, 180, 0, 38, 27, 4, 21, 5, 120, 128, 21, 5, 184, 0, 143, 47, 42, 28, 21, 5]
abbrev dktX28_goOn_1 : List UInt8 := dkwX28_goOn_1 ++ dktX28_goOn_2
def dkwX28_goOn_0 : List UInt8 := [20, 0, 158, 66, 3, 54, 5, 21, 5, 42, 180, 0, 58, 162, 0, 48, 42, 27, 21, 5, 182, 0, 160]
abbrev dktX28_goOn_0 : List UInt8 := dkwX28_goOn_0 ++ dktX28_goOn_1
theorem dksX28_goOn_0 : cX28_goOn.data.toList.drop 0 = dktX28_goOn_0 := by decide +kernel
theorem dksX28_goOn_1 : cX28_goOn.data.toList.drop 23 = dktX28_goOn_1 := dk_seg dksX28_goOn_0 23 rfl rfl
theorem dksX28_goOn_2 : cX28_goOn.data.toList.drop 47 = dktX28_goOn_2 := dk_seg dksX28_goOn_1 24 rfl rfl
theorem dX28_goOn_0 : decode cX28_goOn 0 = .ok (.ldc2_w 158, 3) := dk_20 0 158 (dk_at dksX28_goOn_0 0 rfl rfl)
theorem dX28_goOn_3 : decode cX28_goOn 3 = .ok (.lstore_n 3, 1) := dk_66 (dk_at dksX28_goOn_0 3 rfl rfl)
theorem dX28_goOn_4 : decode cX28_goOn 4 = .ok (.iconst 0, 1) := dk_3 (dk_at dksX28_goOn_0 4 rfl rfl)
theorem dX28_goOn_5 : decode cX28_goOn 5 = .ok (.istore 5, 2) := dk_54 5 (dk_at dksX28_goOn_0 5 rfl rfl)
theorem dX28_goOn_7 : decode cX28_goOn 7 = .ok (.iload 5, 2) := dk_21 5 (dk_at dksX28_goOn_0 7 rfl rfl)
theorem dX28_goOn_9 : decode cX28_goOn 9 = .ok (.aload_n 0, 1) := dk_42 (dk_at dksX28_goOn_0 9 rfl rfl)
theorem dX28_goOn_10 : decode cX28_goOn 10 = .ok (.getfield 58, 3) := dk_180 0 58 (dk_at dksX28_goOn_0 10 rfl rfl)
theorem dX28_goOn_13 : decode cX28_goOn 13 = .ok (.if_icmp .ge 48, 3) := dk_162 0 48 (dk_at dksX28_goOn_0 13 rfl rfl)
theorem dX28_goOn_16 : decode cX28_goOn 16 = .ok (.aload_n 0, 1) := dk_42 (dk_at dksX28_goOn_0 16 rfl rfl)
theorem dX28_goOn_17 : decode cX28_goOn 17 = .ok (.iload_n 1, 1) := dk_27 (dk_at dksX28_goOn_0 17 rfl rfl)
theorem dX28_goOn_18 : decode cX28_goOn 18 = .ok (.iload 5, 2) := dk_21 5 (dk_at dksX28_goOn_0 18 rfl rfl)
theorem dX28_goOn_20 : decode cX28_goOn 20 = .ok (.invokevirtual 160, 3) := dk_182 0 160 (dk_at dksX28_goOn_0 20 rfl rfl)
theorem dX28_goOn_23 : decode cX28_goOn 23 = .ok (.ifCond .eq 32, 3) := dk_153 0 32 (dk_at dksX28_goOn_1 0 rfl rfl)
theorem dX28_goOn_26 : decode cX28_goOn 26 = .ok (.lload_n 3, 1) := dk_33 (dk_at dksX28_goOn_1 3 rfl rfl)
theorem dX28_goOn_27 : decode cX28_goOn 27 = .ok (.aload_n 0, 1) := dk_42 (dk_at dksX28_goOn_1 4 rfl rfl)
theorem dX28_goOn_28 : decode cX28_goOn 28 = .ok (.getfield 38, 3) := dk_180 0 38 (dk_at dksX28_goOn_1 5 rfl rfl)
theorem dX28_goOn_31 : decode cX28_goOn 31 = .ok (.iload_n 1, 1) := dk_27 (dk_at dksX28_goOn_1 8 rfl rfl)
theorem dX28_goOn_32 : decode cX28_goOn 32 = .ok (.iconst 1, 1) := dk_4 (dk_at dksX28_goOn_1 9 rfl rfl)
theorem dX28_goOn_33 : decode cX28_goOn 33 = .ok (.iload 5, 2) := dk_21 5 (dk_at dksX28_goOn_1 10 rfl rfl)
theorem dX28_goOn_35 : decode cX28_goOn 35 = .ok (.ishl, 1) := dk_120 (dk_at dksX28_goOn_1 12 rfl rfl)
theorem dX28_goOn_36 : decode cX28_goOn 36 = .ok (.ior, 1) := dk_128 (dk_at dksX28_goOn_1 13 rfl rfl)
theorem dX28_goOn_37 : decode cX28_goOn 37 = .ok (.iload 5, 2) := dk_21 5 (dk_at dksX28_goOn_1 14 rfl rfl)
theorem dX28_goOn_39 : decode cX28_goOn 39 = .ok (.invokestatic 143, 3) := dk_184 0 143 (dk_at dksX28_goOn_1 16 rfl rfl)
theorem dX28_goOn_42 : decode cX28_goOn 42 = .ok (.laload, 1) := dk_47 (dk_at dksX28_goOn_1 19 rfl rfl)
theorem dX28_goOn_43 : decode cX28_goOn 43 = .ok (.aload_n 0, 1) := dk_42 (dk_at dksX28_goOn_1 20 rfl rfl)
theorem dX28_goOn_44 : decode cX28_goOn 44 = .ok (.iload_n 2, 1) := dk_28 (dk_at dksX28_goOn_1 21 rfl rfl)
theorem dX28_goOn_45 : decode cX28_goOn 45 = .ok (.iload 5, 2) := dk_21 5 (dk_at dksX28_goOn_1 22 rfl rfl)
theorem dX28_goOn_47 : decode cX28_goOn 47 = .ok (.invokevirtual 163, 3) := dk_182 0 163 (dk_at dksX28_goOn_2 0 rfl rfl)
theorem dX28_goOn_50 : decode cX28_goOn 50 = .ok (.lsub, 1) := dk_101 (dk_at dksX28_goOn_2 3 rfl rfl)
theorem dX28_goOn_51 : decode cX28_goOn 51 = .ok (.invokestatic 150, 3) := dk_184 0 150 (dk_at dksX28_goOn_2 4 rfl rfl)
theorem dX28_goOn_54 : decode cX28_goOn 54 = .ok (.lstore_n 3, 1) := dk_66 (dk_at dksX28_goOn_2 7 rfl rfl)
theorem dX28_goOn_55 : decode cX28_goOn 55 = .ok (.iinc 5 1, 3) := dk_132 5 1 (dk_at dksX28_goOn_2 8 rfl rfl)
theorem dX28_goOn_58 : decode cX28_goOn 58 = .ok (.goto (-51), 3) := dk_167 255 205 (dk_at dksX28_goOn_2 11 rfl rfl)
theorem dX28_goOn_61 : decode cX28_goOn 61 = .ok (.lload_n 3, 1) := dk_33 (dk_at dksX28_goOn_2 14 rfl rfl)
theorem dX28_goOn_62 : decode cX28_goOn 62 = .ok (.lreturn, 1) := dk_173 (dk_at dksX28_goOn_2 15 rfl rfl)
abbrev cX28_mayCome : ByteArray := prog_2_method_18_code
def yX28_mayCome : MethodName := ⟨RX28, "mayCome", "(II)Z"⟩
def dkwX28_mayCome_1 : List UInt8 := [4, 167, 0, 4, 3, 172]
abbrev dktX28_mayCome_1 : List UInt8 := dkwX28_mayCome_1 ++ []
def dkwX28_mayCome_0 : List UInt8 := [27, 28, 122, 4, 126, 154, 0, 23, 42, 180, 0, 9, 28, 50, 180, 0, 94, 27, 2, 130, 126, 154, 0, 7]
abbrev dktX28_mayCome_0 : List UInt8 := dkwX28_mayCome_0 ++ dktX28_mayCome_1
theorem dksX28_mayCome_0 : cX28_mayCome.data.toList.drop 0 = dktX28_mayCome_0 := by decide +kernel
theorem dksX28_mayCome_1 : cX28_mayCome.data.toList.drop 24 = dktX28_mayCome_1 := dk_seg dksX28_mayCome_0 24 rfl rfl
theorem dX28_mayCome_0 : decode cX28_mayCome 0 = .ok (.iload_n 1, 1) := dk_27 (dk_at dksX28_mayCome_0 0 rfl rfl)
theorem dX28_mayCome_1 : decode cX28_mayCome 1 = .ok (.iload_n 2, 1) := dk_28 (dk_at dksX28_mayCome_0 1 rfl rfl)
theorem dX28_mayCome_2 : decode cX28_mayCome 2 = .ok (.ishr, 1) := dk_122 (dk_at dksX28_mayCome_0 2 rfl rfl)
theorem dX28_mayCome_3 : decode cX28_mayCome 3 = .ok (.iconst 1, 1) := dk_4 (dk_at dksX28_mayCome_0 3 rfl rfl)
theorem dX28_mayCome_4 : decode cX28_mayCome 4 = .ok (.iand, 1) := dk_126 (dk_at dksX28_mayCome_0 4 rfl rfl)
theorem dX28_mayCome_5 : decode cX28_mayCome 5 = .ok (.ifCond .ne 23, 3) := dk_154 0 23 (dk_at dksX28_mayCome_0 5 rfl rfl)
theorem dX28_mayCome_8 : decode cX28_mayCome 8 = .ok (.aload_n 0, 1) := dk_42 (dk_at dksX28_mayCome_0 8 rfl rfl)
theorem dX28_mayCome_9 : decode cX28_mayCome 9 = .ok (.getfield 9, 3) := dk_180 0 9 (dk_at dksX28_mayCome_0 9 rfl rfl)
theorem dX28_mayCome_12 : decode cX28_mayCome 12 = .ok (.iload_n 2, 1) := dk_28 (dk_at dksX28_mayCome_0 12 rfl rfl)
theorem dX28_mayCome_13 : decode cX28_mayCome 13 = .ok (.aaload, 1) := dk_50 (dk_at dksX28_mayCome_0 13 rfl rfl)
theorem dX28_mayCome_14 : decode cX28_mayCome 14 = .ok (.getfield 94, 3) := dk_180 0 94 (dk_at dksX28_mayCome_0 14 rfl rfl)
theorem dX28_mayCome_17 : decode cX28_mayCome 17 = .ok (.iload_n 1, 1) := dk_27 (dk_at dksX28_mayCome_0 17 rfl rfl)
theorem dX28_mayCome_18 : decode cX28_mayCome 18 = .ok (.iconst (-1), 1) := dk_2 (dk_at dksX28_mayCome_0 18 rfl rfl)
theorem dX28_mayCome_19 : decode cX28_mayCome 19 = .ok (.ixor, 1) := dk_130 (dk_at dksX28_mayCome_0 19 rfl rfl)
theorem dX28_mayCome_20 : decode cX28_mayCome 20 = .ok (.iand, 1) := dk_126 (dk_at dksX28_mayCome_0 20 rfl rfl)
theorem dX28_mayCome_21 : decode cX28_mayCome 21 = .ok (.ifCond .ne 7, 3) := dk_154 0 7 (dk_at dksX28_mayCome_0 21 rfl rfl)
theorem dX28_mayCome_24 : decode cX28_mayCome 24 = .ok (.iconst 1, 1) := dk_4 (dk_at dksX28_mayCome_1 0 rfl rfl)
theorem dX28_mayCome_25 : decode cX28_mayCome 25 = .ok (.goto 4, 3) := dk_167 0 4 (dk_at dksX28_mayCome_1 1 rfl rfl)
theorem dX28_mayCome_28 : decode cX28_mayCome 28 = .ok (.iconst 0, 1) := dk_3 (dk_at dksX28_mayCome_1 4 rfl rfl)
theorem dX28_mayCome_29 : decode cX28_mayCome 29 = .ok (.ireturn, 1) := dk_172 (dk_at dksX28_mayCome_1 5 rfl rfl)
abbrev cX28_cost : ByteArray := prog_2_method_19_code
def yX28_cost : MethodName := ⟨RX28, "cost", "(II)J"⟩
def dkwX28_cost_3 : List UInt8 := [66, 20, 0, 117, 33, 105, 173]
abbrev dktX28_cost_3 : List UInt8 := dkwX28_cost_3 ++ []
def dkwX28_cost_2 : List UInt8 := [42, 180, 0, 9, 27, 50, 180, 0, 81, 42, 180, 0, 9, 28, 50, 180, 0, 81, 182, 0, 129, 96, 133, 97]
abbrev dktX28_cost_2 : List UInt8 := dkwX28_cost_2 ++ dktX28_cost_3
def dkwX28_cost_1 : List UInt8 := [180, 0, 9, 27, 50, 180, 0, 78, 42, 180, 0, 9, 28, 50, 180, 0, 78, 182, 0, 129, 42, 180, 0, 22]
abbrev dktX28_cost_1 : List UInt8 := dkwX28_cost_1 ++ dktX28_cost_2
def dkwX28_cost_0 : List UInt8 := [42, 180, 0, 9, 28, 50, 180, 0, 84, 133, 66, 27, 2, 159, 0, 58, 33, 42, 180, 0, 18, 42]
abbrev dktX28_cost_0 : List UInt8 := dkwX28_cost_0 ++ dktX28_cost_1
theorem dksX28_cost_0 : cX28_cost.data.toList.drop 0 = dktX28_cost_0 := by decide +kernel
theorem dksX28_cost_1 : cX28_cost.data.toList.drop 22 = dktX28_cost_1 := dk_seg dksX28_cost_0 22 rfl rfl
theorem dksX28_cost_2 : cX28_cost.data.toList.drop 46 = dktX28_cost_2 := dk_seg dksX28_cost_1 24 rfl rfl
theorem dksX28_cost_3 : cX28_cost.data.toList.drop 70 = dktX28_cost_3 := dk_seg dksX28_cost_2 24 rfl rfl
theorem dX28_cost_0 : decode cX28_cost 0 = .ok (.aload_n 0, 1) := dk_42 (dk_at dksX28_cost_0 0 rfl rfl)
theorem dX28_cost_1 : decode cX28_cost 1 = .ok (.getfield 9, 3) := dk_180 0 9 (dk_at dksX28_cost_0 1 rfl rfl)
theorem dX28_cost_4 : decode cX28_cost 4 = .ok (.iload_n 2, 1) := dk_28 (dk_at dksX28_cost_0 4 rfl rfl)
theorem dX28_cost_5 : decode cX28_cost 5 = .ok (.aaload, 1) := dk_50 (dk_at dksX28_cost_0 5 rfl rfl)
theorem dX28_cost_6 : decode cX28_cost 6 = .ok (.getfield 84, 3) := dk_180 0 84 (dk_at dksX28_cost_0 6 rfl rfl)
theorem dX28_cost_9 : decode cX28_cost 9 = .ok (.i2l, 1) := dk_133 (dk_at dksX28_cost_0 9 rfl rfl)
theorem dX28_cost_10 : decode cX28_cost 10 = .ok (.lstore_n 3, 1) := dk_66 (dk_at dksX28_cost_0 10 rfl rfl)
theorem dX28_cost_11 : decode cX28_cost 11 = .ok (.iload_n 1, 1) := dk_27 (dk_at dksX28_cost_0 11 rfl rfl)
theorem dX28_cost_12 : decode cX28_cost 12 = .ok (.iconst (-1), 1) := dk_2 (dk_at dksX28_cost_0 12 rfl rfl)
theorem dX28_cost_13 : decode cX28_cost 13 = .ok (.if_icmp .eq 58, 3) := dk_159 0 58 (dk_at dksX28_cost_0 13 rfl rfl)
theorem dX28_cost_16 : decode cX28_cost 16 = .ok (.lload_n 3, 1) := dk_33 (dk_at dksX28_cost_0 16 rfl rfl)
theorem dX28_cost_17 : decode cX28_cost 17 = .ok (.aload_n 0, 1) := dk_42 (dk_at dksX28_cost_0 17 rfl rfl)
theorem dX28_cost_18 : decode cX28_cost 18 = .ok (.getfield 18, 3) := dk_180 0 18 (dk_at dksX28_cost_0 18 rfl rfl)
theorem dX28_cost_21 : decode cX28_cost 21 = .ok (.aload_n 0, 1) := dk_42 (dk_at dksX28_cost_0 21 rfl rfl)
theorem dX28_cost_22 : decode cX28_cost 22 = .ok (.getfield 9, 3) := dk_180 0 9 (dk_at dksX28_cost_1 0 rfl rfl)
theorem dX28_cost_25 : decode cX28_cost 25 = .ok (.iload_n 1, 1) := dk_27 (dk_at dksX28_cost_1 3 rfl rfl)
theorem dX28_cost_26 : decode cX28_cost 26 = .ok (.aaload, 1) := dk_50 (dk_at dksX28_cost_1 4 rfl rfl)
theorem dX28_cost_27 : decode cX28_cost 27 = .ok (.getfield 78, 3) := dk_180 0 78 (dk_at dksX28_cost_1 5 rfl rfl)
theorem dX28_cost_30 : decode cX28_cost 30 = .ok (.aload_n 0, 1) := dk_42 (dk_at dksX28_cost_1 8 rfl rfl)
theorem dX28_cost_31 : decode cX28_cost 31 = .ok (.getfield 9, 3) := dk_180 0 9 (dk_at dksX28_cost_1 9 rfl rfl)
theorem dX28_cost_34 : decode cX28_cost 34 = .ok (.iload_n 2, 1) := dk_28 (dk_at dksX28_cost_1 12 rfl rfl)
theorem dX28_cost_35 : decode cX28_cost 35 = .ok (.aaload, 1) := dk_50 (dk_at dksX28_cost_1 13 rfl rfl)
theorem dX28_cost_36 : decode cX28_cost 36 = .ok (.getfield 78, 3) := dk_180 0 78 (dk_at dksX28_cost_1 14 rfl rfl)
theorem dX28_cost_39 : decode cX28_cost 39 = .ok (.invokevirtual 129, 3) := dk_182 0 129 (dk_at dksX28_cost_1 17 rfl rfl)
theorem dX28_cost_42 : decode cX28_cost 42 = .ok (.aload_n 0, 1) := dk_42 (dk_at dksX28_cost_1 20 rfl rfl)
theorem dX28_cost_43 : decode cX28_cost 43 = .ok (.getfield 22, 3) := dk_180 0 22 (dk_at dksX28_cost_1 21 rfl rfl)
theorem dX28_cost_46 : decode cX28_cost 46 = .ok (.aload_n 0, 1) := dk_42 (dk_at dksX28_cost_2 0 rfl rfl)
theorem dX28_cost_47 : decode cX28_cost 47 = .ok (.getfield 9, 3) := dk_180 0 9 (dk_at dksX28_cost_2 1 rfl rfl)
theorem dX28_cost_50 : decode cX28_cost 50 = .ok (.iload_n 1, 1) := dk_27 (dk_at dksX28_cost_2 4 rfl rfl)
theorem dX28_cost_51 : decode cX28_cost 51 = .ok (.aaload, 1) := dk_50 (dk_at dksX28_cost_2 5 rfl rfl)
theorem dX28_cost_52 : decode cX28_cost 52 = .ok (.getfield 81, 3) := dk_180 0 81 (dk_at dksX28_cost_2 6 rfl rfl)
theorem dX28_cost_55 : decode cX28_cost 55 = .ok (.aload_n 0, 1) := dk_42 (dk_at dksX28_cost_2 9 rfl rfl)
theorem dX28_cost_56 : decode cX28_cost 56 = .ok (.getfield 9, 3) := dk_180 0 9 (dk_at dksX28_cost_2 10 rfl rfl)
theorem dX28_cost_59 : decode cX28_cost 59 = .ok (.iload_n 2, 1) := dk_28 (dk_at dksX28_cost_2 13 rfl rfl)
theorem dX28_cost_60 : decode cX28_cost 60 = .ok (.aaload, 1) := dk_50 (dk_at dksX28_cost_2 14 rfl rfl)
theorem dX28_cost_61 : decode cX28_cost 61 = .ok (.getfield 81, 3) := dk_180 0 81 (dk_at dksX28_cost_2 15 rfl rfl)
theorem dX28_cost_64 : decode cX28_cost 64 = .ok (.invokevirtual 129, 3) := dk_182 0 129 (dk_at dksX28_cost_2 18 rfl rfl)
theorem dX28_cost_67 : decode cX28_cost 67 = .ok (.iadd, 1) := dk_96 (dk_at dksX28_cost_2 21 rfl rfl)
theorem dX28_cost_68 : decode cX28_cost 68 = .ok (.i2l, 1) := dk_133 (dk_at dksX28_cost_2 22 rfl rfl)
theorem dX28_cost_69 : decode cX28_cost 69 = .ok (.ladd, 1) := dk_97 (dk_at dksX28_cost_2 23 rfl rfl)
theorem dX28_cost_70 : decode cX28_cost 70 = .ok (.lstore_n 3, 1) := dk_66 (dk_at dksX28_cost_3 0 rfl rfl)
theorem dX28_cost_71 : decode cX28_cost 71 = .ok (.ldc2_w 117, 3) := dk_20 0 117 (dk_at dksX28_cost_3 1 rfl rfl)
theorem dX28_cost_74 : decode cX28_cost 74 = .ok (.lload_n 3, 1) := dk_33 (dk_at dksX28_cost_3 4 rfl rfl)
theorem dX28_cost_75 : decode cX28_cost 75 = .ok (.lmul, 1) := dk_105 (dk_at dksX28_cost_3 5 rfl rfl)
theorem dX28_cost_76 : decode cX28_cost 76 = .ok (.lreturn, 1) := dk_173 (dk_at dksX28_cost_3 6 rfl rfl)
abbrev cX28_step : ByteArray := prog_2_method_27_code
def yX28_step : MethodName := ⟨RX28, "step", "(I)I"⟩
def dkwX28_step_0 : List UInt8 := [27, 155, 0, 20, 27, 42, 180, 0, 176, 162, 0, 12, 42, 180, 0, 42, 27, 46, 167, 0, 4, 2, 172]
abbrev dktX28_step_0 : List UInt8 := dkwX28_step_0 ++ []
theorem dksX28_step_0 : cX28_step.data.toList.drop 0 = dktX28_step_0 := by decide +kernel
theorem dX28_step_0 : decode cX28_step 0 = .ok (.iload_n 1, 1) := dk_27 (dk_at dksX28_step_0 0 rfl rfl)
theorem dX28_step_1 : decode cX28_step 1 = .ok (.ifCond .lt 20, 3) := dk_155 0 20 (dk_at dksX28_step_0 1 rfl rfl)
theorem dX28_step_4 : decode cX28_step 4 = .ok (.iload_n 1, 1) := dk_27 (dk_at dksX28_step_0 4 rfl rfl)
theorem dX28_step_5 : decode cX28_step 5 = .ok (.aload_n 0, 1) := dk_42 (dk_at dksX28_step_0 5 rfl rfl)
theorem dX28_step_6 : decode cX28_step 6 = .ok (.getfield 176, 3) := dk_180 0 176 (dk_at dksX28_step_0 6 rfl rfl)
theorem dX28_step_9 : decode cX28_step 9 = .ok (.if_icmp .ge 12, 3) := dk_162 0 12 (dk_at dksX28_step_0 9 rfl rfl)
theorem dX28_step_12 : decode cX28_step 12 = .ok (.aload_n 0, 1) := dk_42 (dk_at dksX28_step_0 12 rfl rfl)
theorem dX28_step_13 : decode cX28_step 13 = .ok (.getfield 42, 3) := dk_180 0 42 (dk_at dksX28_step_0 13 rfl rfl)
theorem dX28_step_16 : decode cX28_step 16 = .ok (.iload_n 1, 1) := dk_27 (dk_at dksX28_step_0 16 rfl rfl)
theorem dX28_step_17 : decode cX28_step 17 = .ok (.iaload, 1) := dk_46 (dk_at dksX28_step_0 17 rfl rfl)
theorem dX28_step_18 : decode cX28_step 18 = .ok (.goto 4, 3) := dk_167 0 4 (dk_at dksX28_step_0 18 rfl rfl)
theorem dX28_step_21 : decode cX28_step 21 = .ok (.iconst (-1), 1) := dk_2 (dk_at dksX28_step_0 21 rfl rfl)
theorem dX28_step_22 : decode cX28_step 22 = .ok (.ireturn, 1) := dk_172 (dk_at dksX28_step_0 22 rfl rfl)
abbrev cX28_stops : ByteArray := prog_2_method_29_code
def yX28_stops : MethodName := ⟨RX28, "stops", "(I)I"⟩
def dkwX28_stops_0 : List UInt8 := [42, 180, 0, 188, 153, 0, 14, 42, 180, 0, 185, 27, 184, 0, 196, 167, 0, 4, 2, 172]
abbrev dktX28_stops_0 : List UInt8 := dkwX28_stops_0 ++ []
theorem dksX28_stops_0 : cX28_stops.data.toList.drop 0 = dktX28_stops_0 := by decide +kernel
theorem dX28_stops_0 : decode cX28_stops 0 = .ok (.aload_n 0, 1) := dk_42 (dk_at dksX28_stops_0 0 rfl rfl)
theorem dX28_stops_1 : decode cX28_stops 1 = .ok (.getfield 188, 3) := dk_180 0 188 (dk_at dksX28_stops_0 1 rfl rfl)
theorem dX28_stops_4 : decode cX28_stops 4 = .ok (.ifCond .eq 14, 3) := dk_153 0 14 (dk_at dksX28_stops_0 4 rfl rfl)
theorem dX28_stops_7 : decode cX28_stops 7 = .ok (.aload_n 0, 1) := dk_42 (dk_at dksX28_stops_0 7 rfl rfl)
theorem dX28_stops_8 : decode cX28_stops 8 = .ok (.getfield 185, 3) := dk_180 0 185 (dk_at dksX28_stops_0 8 rfl rfl)
theorem dX28_stops_11 : decode cX28_stops 11 = .ok (.iload_n 1, 1) := dk_27 (dk_at dksX28_stops_0 11 rfl rfl)
theorem dX28_stops_12 : decode cX28_stops 12 = .ok (.invokestatic 196, 3) := dk_184 0 196 (dk_at dksX28_stops_0 12 rfl rfl)
theorem dX28_stops_15 : decode cX28_stops 15 = .ok (.goto 4, 3) := dk_167 0 4 (dk_at dksX28_stops_0 15 rfl rfl)
theorem dX28_stops_18 : decode cX28_stops 18 = .ok (.iconst (-1), 1) := dk_2 (dk_at dksX28_stops_0 18 rfl rfl)
theorem dX28_stops_19 : decode cX28_stops 19 = .ok (.ireturn, 1) := dk_172 (dk_at dksX28_stops_0 19 rfl rfl)
abbrev cX28_bit : ByteArray := prog_2_method_28_code
def yX28_bit : MethodName := ⟨RX28, "bit", "(II)I"⟩
def dkwX28_bit_1 : List UInt8 := [167, 255, 238, 27, 155, 0, 7, 28, 154, 0, 7, 2, 167, 0, 7, 28, 184, 0, 191, 172]
abbrev dktX28_bit_1 : List UInt8 := dkwX28_bit_1 ++ []
def dkwX28_bit_0 : List UInt8 := [26, 61, 3, 62, 29, 27, 162, 0, 19, 28, 153, 0, 15, 28, 28, 4, 100, 126, 61, 132, 3, 1]
abbrev dktX28_bit_0 : List UInt8 := dkwX28_bit_0 ++ dktX28_bit_1
theorem dksX28_bit_0 : cX28_bit.data.toList.drop 0 = dktX28_bit_0 := by decide +kernel
theorem dksX28_bit_1 : cX28_bit.data.toList.drop 22 = dktX28_bit_1 := dk_seg dksX28_bit_0 22 rfl rfl
theorem dX28_bit_0 : decode cX28_bit 0 = .ok (.iload_n 0, 1) := dk_26 (dk_at dksX28_bit_0 0 rfl rfl)
theorem dX28_bit_1 : decode cX28_bit 1 = .ok (.istore_n 2, 1) := dk_61 (dk_at dksX28_bit_0 1 rfl rfl)
theorem dX28_bit_2 : decode cX28_bit 2 = .ok (.iconst 0, 1) := dk_3 (dk_at dksX28_bit_0 2 rfl rfl)
theorem dX28_bit_3 : decode cX28_bit 3 = .ok (.istore_n 3, 1) := dk_62 (dk_at dksX28_bit_0 3 rfl rfl)
theorem dX28_bit_4 : decode cX28_bit 4 = .ok (.iload_n 3, 1) := dk_29 (dk_at dksX28_bit_0 4 rfl rfl)
theorem dX28_bit_5 : decode cX28_bit 5 = .ok (.iload_n 1, 1) := dk_27 (dk_at dksX28_bit_0 5 rfl rfl)
theorem dX28_bit_6 : decode cX28_bit 6 = .ok (.if_icmp .ge 19, 3) := dk_162 0 19 (dk_at dksX28_bit_0 6 rfl rfl)
theorem dX28_bit_9 : decode cX28_bit 9 = .ok (.iload_n 2, 1) := dk_28 (dk_at dksX28_bit_0 9 rfl rfl)
theorem dX28_bit_10 : decode cX28_bit 10 = .ok (.ifCond .eq 15, 3) := dk_153 0 15 (dk_at dksX28_bit_0 10 rfl rfl)
theorem dX28_bit_13 : decode cX28_bit 13 = .ok (.iload_n 2, 1) := dk_28 (dk_at dksX28_bit_0 13 rfl rfl)
theorem dX28_bit_14 : decode cX28_bit 14 = .ok (.iload_n 2, 1) := dk_28 (dk_at dksX28_bit_0 14 rfl rfl)
theorem dX28_bit_15 : decode cX28_bit 15 = .ok (.iconst 1, 1) := dk_4 (dk_at dksX28_bit_0 15 rfl rfl)
theorem dX28_bit_16 : decode cX28_bit 16 = .ok (.isub, 1) := dk_100 (dk_at dksX28_bit_0 16 rfl rfl)
theorem dX28_bit_17 : decode cX28_bit 17 = .ok (.iand, 1) := dk_126 (dk_at dksX28_bit_0 17 rfl rfl)
theorem dX28_bit_18 : decode cX28_bit 18 = .ok (.istore_n 2, 1) := dk_61 (dk_at dksX28_bit_0 18 rfl rfl)
theorem dX28_bit_19 : decode cX28_bit 19 = .ok (.iinc 3 1, 3) := dk_132 3 1 (dk_at dksX28_bit_0 19 rfl rfl)
theorem dX28_bit_22 : decode cX28_bit 22 = .ok (.goto (-18), 3) := dk_167 255 238 (dk_at dksX28_bit_1 0 rfl rfl)
theorem dX28_bit_25 : decode cX28_bit 25 = .ok (.iload_n 1, 1) := dk_27 (dk_at dksX28_bit_1 3 rfl rfl)
theorem dX28_bit_26 : decode cX28_bit 26 = .ok (.ifCond .lt 7, 3) := dk_155 0 7 (dk_at dksX28_bit_1 4 rfl rfl)
theorem dX28_bit_29 : decode cX28_bit 29 = .ok (.iload_n 2, 1) := dk_28 (dk_at dksX28_bit_1 7 rfl rfl)
theorem dX28_bit_30 : decode cX28_bit 30 = .ok (.ifCond .ne 7, 3) := dk_154 0 7 (dk_at dksX28_bit_1 8 rfl rfl)
theorem dX28_bit_33 : decode cX28_bit 33 = .ok (.iconst (-1), 1) := dk_2 (dk_at dksX28_bit_1 11 rfl rfl)
theorem dX28_bit_34 : decode cX28_bit 34 = .ok (.goto 7, 3) := dk_167 0 7 (dk_at dksX28_bit_1 12 rfl rfl)
theorem dX28_bit_37 : decode cX28_bit 37 = .ok (.iload_n 2, 1) := dk_28 (dk_at dksX28_bit_1 15 rfl rfl)
theorem dX28_bit_38 : decode cX28_bit 38 = .ok (.invokestatic 191, 3) := dk_184 0 191 (dk_at dksX28_bit_1 16 rfl rfl)
theorem dX28_bit_41 : decode cX28_bit 41 = .ok (.ireturn, 1) := dk_172 (dk_at dksX28_bit_1 19 rfl rfl)
abbrev cX28_other : ByteArray := prog_2_method_30_code
def yX28_other : MethodName := ⟨RX28, "other", "(I)I"⟩
def dkwX28_other_1 : List UInt8 := [184, 0, 196, 167, 0, 4, 2, 172]
abbrev dktX28_other_1 : List UInt8 := dkwX28_other_1 ++ []
def dkwX28_other_0 : List UInt8 := [42, 180, 0, 188, 153, 0, 25, 4, 42, 180, 0, 182, 120, 4, 100, 42, 180, 0, 179, 2, 130, 126, 27]
abbrev dktX28_other_0 : List UInt8 := dkwX28_other_0 ++ dktX28_other_1
theorem dksX28_other_0 : cX28_other.data.toList.drop 0 = dktX28_other_0 := by decide +kernel
theorem dksX28_other_1 : cX28_other.data.toList.drop 23 = dktX28_other_1 := dk_seg dksX28_other_0 23 rfl rfl
theorem dX28_other_0 : decode cX28_other 0 = .ok (.aload_n 0, 1) := dk_42 (dk_at dksX28_other_0 0 rfl rfl)
theorem dX28_other_1 : decode cX28_other 1 = .ok (.getfield 188, 3) := dk_180 0 188 (dk_at dksX28_other_0 1 rfl rfl)
theorem dX28_other_4 : decode cX28_other 4 = .ok (.ifCond .eq 25, 3) := dk_153 0 25 (dk_at dksX28_other_0 4 rfl rfl)
theorem dX28_other_7 : decode cX28_other 7 = .ok (.iconst 1, 1) := dk_4 (dk_at dksX28_other_0 7 rfl rfl)
theorem dX28_other_8 : decode cX28_other 8 = .ok (.aload_n 0, 1) := dk_42 (dk_at dksX28_other_0 8 rfl rfl)
theorem dX28_other_9 : decode cX28_other 9 = .ok (.getfield 182, 3) := dk_180 0 182 (dk_at dksX28_other_0 9 rfl rfl)
theorem dX28_other_12 : decode cX28_other 12 = .ok (.ishl, 1) := dk_120 (dk_at dksX28_other_0 12 rfl rfl)
theorem dX28_other_13 : decode cX28_other 13 = .ok (.iconst 1, 1) := dk_4 (dk_at dksX28_other_0 13 rfl rfl)
theorem dX28_other_14 : decode cX28_other 14 = .ok (.isub, 1) := dk_100 (dk_at dksX28_other_0 14 rfl rfl)
theorem dX28_other_15 : decode cX28_other 15 = .ok (.aload_n 0, 1) := dk_42 (dk_at dksX28_other_0 15 rfl rfl)
theorem dX28_other_16 : decode cX28_other 16 = .ok (.getfield 179, 3) := dk_180 0 179 (dk_at dksX28_other_0 16 rfl rfl)
theorem dX28_other_19 : decode cX28_other 19 = .ok (.iconst (-1), 1) := dk_2 (dk_at dksX28_other_0 19 rfl rfl)
theorem dX28_other_20 : decode cX28_other 20 = .ok (.ixor, 1) := dk_130 (dk_at dksX28_other_0 20 rfl rfl)
theorem dX28_other_21 : decode cX28_other 21 = .ok (.iand, 1) := dk_126 (dk_at dksX28_other_0 21 rfl rfl)
theorem dX28_other_22 : decode cX28_other 22 = .ok (.iload_n 1, 1) := dk_27 (dk_at dksX28_other_0 22 rfl rfl)
theorem dX28_other_23 : decode cX28_other 23 = .ok (.invokestatic 196, 3) := dk_184 0 196 (dk_at dksX28_other_1 0 rfl rfl)
theorem dX28_other_26 : decode cX28_other 26 = .ok (.goto 4, 3) := dk_167 0 4 (dk_at dksX28_other_1 3 rfl rfl)
theorem dX28_other_29 : decode cX28_other 29 = .ok (.iconst (-1), 1) := dk_2 (dk_at dksX28_other_1 6 rfl rfl)
theorem dX28_other_30 : decode cX28_other 30 = .ok (.ireturn, 1) := dk_172 (dk_at dksX28_other_1 7 rfl rfl)
abbrev cX28_gain : ByteArray := prog_2_method_31_code
def yX28_gain : MethodName := ⟨RX28, "gain", "(I)J"⟩
def dkwX28_gain_1 : List UInt8 := [160, 0, 10, 42, 180, 0, 172, 167, 0, 9, 42, 180, 0, 45, 27, 47, 173]
abbrev dktX28_gain_1 : List UInt8 := dkwX28_gain_1 ++ []
def dkwX28_gain_0 : List UInt8 := [42, 180, 0, 188, 153, 0, 14, 27, 2, 161, 0, 9, 27, 16, 12, 161, 0, 5, 9, 173, 27, 2]
abbrev dktX28_gain_0 : List UInt8 := dkwX28_gain_0 ++ dktX28_gain_1
theorem dksX28_gain_0 : cX28_gain.data.toList.drop 0 = dktX28_gain_0 := by decide +kernel
theorem dksX28_gain_1 : cX28_gain.data.toList.drop 22 = dktX28_gain_1 := dk_seg dksX28_gain_0 22 rfl rfl
theorem dX28_gain_0 : decode cX28_gain 0 = .ok (.aload_n 0, 1) := dk_42 (dk_at dksX28_gain_0 0 rfl rfl)
theorem dX28_gain_1 : decode cX28_gain 1 = .ok (.getfield 188, 3) := dk_180 0 188 (dk_at dksX28_gain_0 1 rfl rfl)
theorem dX28_gain_4 : decode cX28_gain 4 = .ok (.ifCond .eq 14, 3) := dk_153 0 14 (dk_at dksX28_gain_0 4 rfl rfl)
theorem dX28_gain_7 : decode cX28_gain 7 = .ok (.iload_n 1, 1) := dk_27 (dk_at dksX28_gain_0 7 rfl rfl)
theorem dX28_gain_8 : decode cX28_gain 8 = .ok (.iconst (-1), 1) := dk_2 (dk_at dksX28_gain_0 8 rfl rfl)
theorem dX28_gain_9 : decode cX28_gain 9 = .ok (.if_icmp .lt 9, 3) := dk_161 0 9 (dk_at dksX28_gain_0 9 rfl rfl)
theorem dX28_gain_12 : decode cX28_gain 12 = .ok (.iload_n 1, 1) := dk_27 (dk_at dksX28_gain_0 12 rfl rfl)
theorem dX28_gain_13 : decode cX28_gain 13 = .ok (.bipush 12, 2) := dk_16 12 (dk_at dksX28_gain_0 13 rfl rfl)
theorem dX28_gain_15 : decode cX28_gain 15 = .ok (.if_icmp .lt 5, 3) := dk_161 0 5 (dk_at dksX28_gain_0 15 rfl rfl)
theorem dX28_gain_18 : decode cX28_gain 18 = .ok (.lconst 0, 1) := dk_9 (dk_at dksX28_gain_0 18 rfl rfl)
theorem dX28_gain_19 : decode cX28_gain 19 = .ok (.lreturn, 1) := dk_173 (dk_at dksX28_gain_0 19 rfl rfl)
theorem dX28_gain_20 : decode cX28_gain 20 = .ok (.iload_n 1, 1) := dk_27 (dk_at dksX28_gain_0 20 rfl rfl)
theorem dX28_gain_21 : decode cX28_gain 21 = .ok (.iconst (-1), 1) := dk_2 (dk_at dksX28_gain_0 21 rfl rfl)
theorem dX28_gain_22 : decode cX28_gain 22 = .ok (.if_icmp .ne 10, 3) := dk_160 0 10 (dk_at dksX28_gain_1 0 rfl rfl)
theorem dX28_gain_25 : decode cX28_gain 25 = .ok (.aload_n 0, 1) := dk_42 (dk_at dksX28_gain_1 3 rfl rfl)
theorem dX28_gain_26 : decode cX28_gain 26 = .ok (.getfield 172, 3) := dk_180 0 172 (dk_at dksX28_gain_1 4 rfl rfl)
theorem dX28_gain_29 : decode cX28_gain 29 = .ok (.goto 9, 3) := dk_167 0 9 (dk_at dksX28_gain_1 7 rfl rfl)
theorem dX28_gain_32 : decode cX28_gain 32 = .ok (.aload_n 0, 1) := dk_42 (dk_at dksX28_gain_1 10 rfl rfl)
theorem dX28_gain_33 : decode cX28_gain 33 = .ok (.getfield 45, 3) := dk_180 0 45 (dk_at dksX28_gain_1 11 rfl rfl)
theorem dX28_gain_36 : decode cX28_gain 36 = .ok (.iload_n 1, 1) := dk_27 (dk_at dksX28_gain_1 14 rfl rfl)
theorem dX28_gain_37 : decode cX28_gain 37 = .ok (.laload, 1) := dk_47 (dk_at dksX28_gain_1 15 rfl rfl)
theorem dX28_gain_38 : decode cX28_gain 38 = .ok (.lreturn, 1) := dk_173 (dk_at dksX28_gain_1 16 rfl rfl)
abbrev cX28_proved : ByteArray := prog_2_method_32_code
def yX28_proved : MethodName := ⟨RX28, "proved", "()Z"⟩
theorem dX28_proved_0 : decode cX28_proved 0 = .ok (.aload_n 0, 1) := by decide +kernel
theorem dX28_proved_1 : decode cX28_proved 1 = .ok (.getfield 87, 3) := by decide +kernel
theorem dX28_proved_4 : decode cX28_proved 4 = .ok (.ireturn, 1) := by decide +kernel
abbrev cX28_bound : ByteArray := prog_2_method_33_code
def yX28_bound : MethodName := ⟨RX28, "bound", "()J"⟩
def dkwX28_bound_3 : List UInt8 := [173]
abbrev dktX28_bound_3 : List UInt8 := dkwX28_bound_3 ++ []
def dkwX28_bound_2 : List UInt8 := [180, 0, 35, 21, 4, 46, 184, 0, 199, 62, 132, 4, 1, 167, 255, 232, 31, 20, 0, 117, 29, 133, 105, 97]
abbrev dktX28_bound_2 : List UInt8 := dkwX28_bound_2 ++ dktX28_bound_3
def dkwX28_bound_1 : List UInt8 := [132, 3, 1, 167, 255, 235, 3, 62, 3, 54, 4, 21, 4, 42, 180, 0, 103, 162, 0, 21, 29, 42]
abbrev dktX28_bound_1 : List UInt8 := dkwX28_bound_1 ++ dktX28_bound_2
def dkwX28_bound_0 : List UInt8 := [9, 64, 3, 62, 29, 16, 12, 162, 0, 21, 31, 9, 42, 29, 182, 0, 125, 184, 0, 150, 97, 64]
abbrev dktX28_bound_0 : List UInt8 := dkwX28_bound_0 ++ dktX28_bound_1
theorem dksX28_bound_0 : cX28_bound.data.toList.drop 0 = dktX28_bound_0 := by decide +kernel
theorem dksX28_bound_1 : cX28_bound.data.toList.drop 22 = dktX28_bound_1 := dk_seg dksX28_bound_0 22 rfl rfl
theorem dksX28_bound_2 : cX28_bound.data.toList.drop 44 = dktX28_bound_2 := dk_seg dksX28_bound_1 22 rfl rfl
theorem dksX28_bound_3 : cX28_bound.data.toList.drop 68 = dktX28_bound_3 := dk_seg dksX28_bound_2 24 rfl rfl
theorem dX28_bound_0 : decode cX28_bound 0 = .ok (.lconst 0, 1) := dk_9 (dk_at dksX28_bound_0 0 rfl rfl)
theorem dX28_bound_1 : decode cX28_bound 1 = .ok (.lstore_n 1, 1) := dk_64 (dk_at dksX28_bound_0 1 rfl rfl)
theorem dX28_bound_2 : decode cX28_bound 2 = .ok (.iconst 0, 1) := dk_3 (dk_at dksX28_bound_0 2 rfl rfl)
theorem dX28_bound_3 : decode cX28_bound 3 = .ok (.istore_n 3, 1) := dk_62 (dk_at dksX28_bound_0 3 rfl rfl)
theorem dX28_bound_4 : decode cX28_bound 4 = .ok (.iload_n 3, 1) := dk_29 (dk_at dksX28_bound_0 4 rfl rfl)
theorem dX28_bound_5 : decode cX28_bound 5 = .ok (.bipush 12, 2) := dk_16 12 (dk_at dksX28_bound_0 5 rfl rfl)
theorem dX28_bound_7 : decode cX28_bound 7 = .ok (.if_icmp .ge 21, 3) := dk_162 0 21 (dk_at dksX28_bound_0 7 rfl rfl)
theorem dX28_bound_10 : decode cX28_bound 10 = .ok (.lload_n 1, 1) := dk_31 (dk_at dksX28_bound_0 10 rfl rfl)
theorem dX28_bound_11 : decode cX28_bound 11 = .ok (.lconst 0, 1) := dk_9 (dk_at dksX28_bound_0 11 rfl rfl)
theorem dX28_bound_12 : decode cX28_bound 12 = .ok (.aload_n 0, 1) := dk_42 (dk_at dksX28_bound_0 12 rfl rfl)
theorem dX28_bound_13 : decode cX28_bound 13 = .ok (.iload_n 3, 1) := dk_29 (dk_at dksX28_bound_0 13 rfl rfl)
theorem dX28_bound_14 : decode cX28_bound 14 = .ok (.invokevirtual 125, 3) := dk_182 0 125 (dk_at dksX28_bound_0 14 rfl rfl)
theorem dX28_bound_17 : decode cX28_bound 17 = .ok (.invokestatic 150, 3) := dk_184 0 150 (dk_at dksX28_bound_0 17 rfl rfl)
theorem dX28_bound_20 : decode cX28_bound 20 = .ok (.ladd, 1) := dk_97 (dk_at dksX28_bound_0 20 rfl rfl)
theorem dX28_bound_21 : decode cX28_bound 21 = .ok (.lstore_n 1, 1) := dk_64 (dk_at dksX28_bound_0 21 rfl rfl)
theorem dX28_bound_22 : decode cX28_bound 22 = .ok (.iinc 3 1, 3) := dk_132 3 1 (dk_at dksX28_bound_1 0 rfl rfl)
theorem dX28_bound_25 : decode cX28_bound 25 = .ok (.goto (-21), 3) := dk_167 255 235 (dk_at dksX28_bound_1 3 rfl rfl)
theorem dX28_bound_28 : decode cX28_bound 28 = .ok (.iconst 0, 1) := dk_3 (dk_at dksX28_bound_1 6 rfl rfl)
theorem dX28_bound_29 : decode cX28_bound 29 = .ok (.istore_n 3, 1) := dk_62 (dk_at dksX28_bound_1 7 rfl rfl)
theorem dX28_bound_30 : decode cX28_bound 30 = .ok (.iconst 0, 1) := dk_3 (dk_at dksX28_bound_1 8 rfl rfl)
theorem dX28_bound_31 : decode cX28_bound 31 = .ok (.istore 4, 2) := dk_54 4 (dk_at dksX28_bound_1 9 rfl rfl)
theorem dX28_bound_33 : decode cX28_bound 33 = .ok (.iload 4, 2) := dk_21 4 (dk_at dksX28_bound_1 11 rfl rfl)
theorem dX28_bound_35 : decode cX28_bound 35 = .ok (.aload_n 0, 1) := dk_42 (dk_at dksX28_bound_1 13 rfl rfl)
theorem dX28_bound_36 : decode cX28_bound 36 = .ok (.getfield 103, 3) := dk_180 0 103 (dk_at dksX28_bound_1 14 rfl rfl)
theorem dX28_bound_39 : decode cX28_bound 39 = .ok (.if_icmp .ge 21, 3) := dk_162 0 21 (dk_at dksX28_bound_1 17 rfl rfl)
theorem dX28_bound_42 : decode cX28_bound 42 = .ok (.iload_n 3, 1) := dk_29 (dk_at dksX28_bound_1 20 rfl rfl)
theorem dX28_bound_43 : decode cX28_bound 43 = .ok (.aload_n 0, 1) := dk_42 (dk_at dksX28_bound_1 21 rfl rfl)
theorem dX28_bound_44 : decode cX28_bound 44 = .ok (.getfield 35, 3) := dk_180 0 35 (dk_at dksX28_bound_2 0 rfl rfl)
theorem dX28_bound_47 : decode cX28_bound 47 = .ok (.iload 4, 2) := dk_21 4 (dk_at dksX28_bound_2 3 rfl rfl)
theorem dX28_bound_49 : decode cX28_bound 49 = .ok (.iaload, 1) := dk_46 (dk_at dksX28_bound_2 5 rfl rfl)
theorem dX28_bound_50 : decode cX28_bound 50 = .ok (.invokestatic 199, 3) := dk_184 0 199 (dk_at dksX28_bound_2 6 rfl rfl)
theorem dX28_bound_53 : decode cX28_bound 53 = .ok (.istore_n 3, 1) := dk_62 (dk_at dksX28_bound_2 9 rfl rfl)
theorem dX28_bound_54 : decode cX28_bound 54 = .ok (.iinc 4 1, 3) := dk_132 4 1 (dk_at dksX28_bound_2 10 rfl rfl)
theorem dX28_bound_57 : decode cX28_bound 57 = .ok (.goto (-24), 3) := dk_167 255 232 (dk_at dksX28_bound_2 13 rfl rfl)
theorem dX28_bound_60 : decode cX28_bound 60 = .ok (.lload_n 1, 1) := dk_31 (dk_at dksX28_bound_2 16 rfl rfl)
theorem dX28_bound_61 : decode cX28_bound 61 = .ok (.ldc2_w 117, 3) := dk_20 0 117 (dk_at dksX28_bound_2 17 rfl rfl)
theorem dX28_bound_64 : decode cX28_bound 64 = .ok (.iload_n 3, 1) := dk_29 (dk_at dksX28_bound_2 20 rfl rfl)
theorem dX28_bound_65 : decode cX28_bound 65 = .ok (.i2l, 1) := dk_133 (dk_at dksX28_bound_2 21 rfl rfl)
theorem dX28_bound_66 : decode cX28_bound 66 = .ok (.lmul, 1) := dk_105 (dk_at dksX28_bound_2 22 rfl rfl)
theorem dX28_bound_67 : decode cX28_bound 67 = .ok (.ladd, 1) := dk_97 (dk_at dksX28_bound_2 23 rfl rfl)
theorem dX28_bound_68 : decode cX28_bound 68 = .ok (.lreturn, 1) := dk_173 (dk_at dksX28_bound_3 0 rfl rfl)
abbrev cX28_test : ByteArray := prog_2_method_34_code
def yX28_test : MethodName := ⟨RX28, "test", "(IJ)I"⟩
def dkwX28_test_4 : List UInt8 := [20, 0, 117, 22, 5, 105, 148, 158, 0, 7, 4, 167, 0, 4, 3, 172]
abbrev dktX28_test_4 : List UInt8 := dkwX28_test_4 ++ []
def dkwX28_test_3 : List UInt8 := [21, 4, 133, 22, 7, 105, 20, 0, 117, 21, 4, 133, 101, 22, 9, 105, 97, 20, 0, 201, 32, 105, 101]
abbrev dktX28_test_3 : List UInt8 := dkwX28_test_3 ++ dktX28_test_4
def dkwX28_test_2 : List UInt8 := [55, 7, 42, 180, 0, 29, 27, 3, 79, 42, 182, 0, 169, 55, 9, 42, 180, 0, 29, 27, 21, 4, 79]
abbrev dktX28_test_2 : List UInt8 := dkwX28_test_2 ++ dktX28_test_3
def dkwX28_test_1 : List UInt8 := [27, 46, 54, 4, 42, 182, 0, 169, 55, 5, 42, 180, 0, 29, 27, 17, 108, 72, 79, 42, 182, 0, 169]
abbrev dktX28_test_1 : List UInt8 := dkwX28_test_1 ++ dktX28_test_2
def dkwX28_test_0 : List UInt8 := [27, 184, 0, 62, 153, 0, 14, 32, 9, 20, 0, 69, 184, 0, 71, 154, 0, 5, 2, 172, 42, 180, 0, 29]
abbrev dktX28_test_0 : List UInt8 := dkwX28_test_0 ++ dktX28_test_1
theorem dksX28_test_0 : cX28_test.data.toList.drop 0 = dktX28_test_0 := by decide +kernel
theorem dksX28_test_1 : cX28_test.data.toList.drop 24 = dktX28_test_1 := dk_seg dksX28_test_0 24 rfl rfl
theorem dksX28_test_2 : cX28_test.data.toList.drop 47 = dktX28_test_2 := dk_seg dksX28_test_1 23 rfl rfl
theorem dksX28_test_3 : cX28_test.data.toList.drop 70 = dktX28_test_3 := dk_seg dksX28_test_2 23 rfl rfl
theorem dksX28_test_4 : cX28_test.data.toList.drop 93 = dktX28_test_4 := dk_seg dksX28_test_3 23 rfl rfl
theorem dX28_test_0 : decode cX28_test 0 = .ok (.iload_n 1, 1) := dk_27 (dk_at dksX28_test_0 0 rfl rfl)
theorem dX28_test_1 : decode cX28_test 1 = .ok (.invokestatic 62, 3) := dk_184 0 62 (dk_at dksX28_test_0 1 rfl rfl)
theorem dX28_test_4 : decode cX28_test 4 = .ok (.ifCond .eq 14, 3) := dk_153 0 14 (dk_at dksX28_test_0 4 rfl rfl)
theorem dX28_test_7 : decode cX28_test 7 = .ok (.lload_n 2, 1) := dk_32 (dk_at dksX28_test_0 7 rfl rfl)
theorem dX28_test_8 : decode cX28_test 8 = .ok (.lconst 0, 1) := dk_9 (dk_at dksX28_test_0 8 rfl rfl)
theorem dX28_test_9 : decode cX28_test 9 = .ok (.ldc2_w 69, 3) := dk_20 0 69 (dk_at dksX28_test_0 9 rfl rfl)
theorem dX28_test_12 : decode cX28_test 12 = .ok (.invokestatic 71, 3) := dk_184 0 71 (dk_at dksX28_test_0 12 rfl rfl)
theorem dX28_test_15 : decode cX28_test 15 = .ok (.ifCond .ne 5, 3) := dk_154 0 5 (dk_at dksX28_test_0 15 rfl rfl)
theorem dX28_test_18 : decode cX28_test 18 = .ok (.iconst (-1), 1) := dk_2 (dk_at dksX28_test_0 18 rfl rfl)
theorem dX28_test_19 : decode cX28_test 19 = .ok (.ireturn, 1) := dk_172 (dk_at dksX28_test_0 19 rfl rfl)
theorem dX28_test_20 : decode cX28_test 20 = .ok (.aload_n 0, 1) := dk_42 (dk_at dksX28_test_0 20 rfl rfl)
theorem dX28_test_21 : decode cX28_test 21 = .ok (.getfield 29, 3) := dk_180 0 29 (dk_at dksX28_test_0 21 rfl rfl)
theorem dX28_test_24 : decode cX28_test 24 = .ok (.iload_n 1, 1) := dk_27 (dk_at dksX28_test_1 0 rfl rfl)
theorem dX28_test_25 : decode cX28_test 25 = .ok (.iaload, 1) := dk_46 (dk_at dksX28_test_1 1 rfl rfl)
theorem dX28_test_26 : decode cX28_test 26 = .ok (.istore 4, 2) := dk_54 4 (dk_at dksX28_test_1 2 rfl rfl)
theorem dX28_test_28 : decode cX28_test 28 = .ok (.aload_n 0, 1) := dk_42 (dk_at dksX28_test_1 4 rfl rfl)
theorem dX28_test_29 : decode cX28_test 29 = .ok (.invokevirtual 169, 3) := dk_182 0 169 (dk_at dksX28_test_1 5 rfl rfl)
theorem dX28_test_32 : decode cX28_test 32 = .ok (.lstore 5, 2) := dk_55 5 (dk_at dksX28_test_1 8 rfl rfl)
theorem dX28_test_34 : decode cX28_test 34 = .ok (.aload_n 0, 1) := dk_42 (dk_at dksX28_test_1 10 rfl rfl)
theorem dX28_test_35 : decode cX28_test 35 = .ok (.getfield 29, 3) := dk_180 0 29 (dk_at dksX28_test_1 11 rfl rfl)
theorem dX28_test_38 : decode cX28_test 38 = .ok (.iload_n 1, 1) := dk_27 (dk_at dksX28_test_1 14 rfl rfl)
theorem dX28_test_39 : decode cX28_test 39 = .ok (.sipush 27720, 3) := dk_17 108 72 (dk_at dksX28_test_1 15 rfl rfl)
theorem dX28_test_42 : decode cX28_test 42 = .ok (.iastore, 1) := dk_79 (dk_at dksX28_test_1 18 rfl rfl)
theorem dX28_test_43 : decode cX28_test 43 = .ok (.aload_n 0, 1) := dk_42 (dk_at dksX28_test_1 19 rfl rfl)
theorem dX28_test_44 : decode cX28_test 44 = .ok (.invokevirtual 169, 3) := dk_182 0 169 (dk_at dksX28_test_1 20 rfl rfl)
theorem dX28_test_47 : decode cX28_test 47 = .ok (.lstore 7, 2) := dk_55 7 (dk_at dksX28_test_2 0 rfl rfl)
theorem dX28_test_49 : decode cX28_test 49 = .ok (.aload_n 0, 1) := dk_42 (dk_at dksX28_test_2 2 rfl rfl)
theorem dX28_test_50 : decode cX28_test 50 = .ok (.getfield 29, 3) := dk_180 0 29 (dk_at dksX28_test_2 3 rfl rfl)
theorem dX28_test_53 : decode cX28_test 53 = .ok (.iload_n 1, 1) := dk_27 (dk_at dksX28_test_2 6 rfl rfl)
theorem dX28_test_54 : decode cX28_test 54 = .ok (.iconst 0, 1) := dk_3 (dk_at dksX28_test_2 7 rfl rfl)
theorem dX28_test_55 : decode cX28_test 55 = .ok (.iastore, 1) := dk_79 (dk_at dksX28_test_2 8 rfl rfl)
theorem dX28_test_56 : decode cX28_test 56 = .ok (.aload_n 0, 1) := dk_42 (dk_at dksX28_test_2 9 rfl rfl)
theorem dX28_test_57 : decode cX28_test 57 = .ok (.invokevirtual 169, 3) := dk_182 0 169 (dk_at dksX28_test_2 10 rfl rfl)
theorem dX28_test_60 : decode cX28_test 60 = .ok (.lstore 9, 2) := dk_55 9 (dk_at dksX28_test_2 13 rfl rfl)
theorem dX28_test_62 : decode cX28_test 62 = .ok (.aload_n 0, 1) := dk_42 (dk_at dksX28_test_2 15 rfl rfl)
theorem dX28_test_63 : decode cX28_test 63 = .ok (.getfield 29, 3) := dk_180 0 29 (dk_at dksX28_test_2 16 rfl rfl)
theorem dX28_test_66 : decode cX28_test 66 = .ok (.iload_n 1, 1) := dk_27 (dk_at dksX28_test_2 19 rfl rfl)
theorem dX28_test_67 : decode cX28_test 67 = .ok (.iload 4, 2) := dk_21 4 (dk_at dksX28_test_2 20 rfl rfl)
theorem dX28_test_69 : decode cX28_test 69 = .ok (.iastore, 1) := dk_79 (dk_at dksX28_test_2 22 rfl rfl)
theorem dX28_test_70 : decode cX28_test 70 = .ok (.iload 4, 2) := dk_21 4 (dk_at dksX28_test_3 0 rfl rfl)
theorem dX28_test_72 : decode cX28_test 72 = .ok (.i2l, 1) := dk_133 (dk_at dksX28_test_3 2 rfl rfl)
theorem dX28_test_73 : decode cX28_test 73 = .ok (.lload 7, 2) := dk_22 7 (dk_at dksX28_test_3 3 rfl rfl)
theorem dX28_test_75 : decode cX28_test 75 = .ok (.lmul, 1) := dk_105 (dk_at dksX28_test_3 5 rfl rfl)
theorem dX28_test_76 : decode cX28_test 76 = .ok (.ldc2_w 117, 3) := dk_20 0 117 (dk_at dksX28_test_3 6 rfl rfl)
theorem dX28_test_79 : decode cX28_test 79 = .ok (.iload 4, 2) := dk_21 4 (dk_at dksX28_test_3 9 rfl rfl)
theorem dX28_test_81 : decode cX28_test 81 = .ok (.i2l, 1) := dk_133 (dk_at dksX28_test_3 11 rfl rfl)
theorem dX28_test_82 : decode cX28_test 82 = .ok (.lsub, 1) := dk_101 (dk_at dksX28_test_3 12 rfl rfl)
theorem dX28_test_83 : decode cX28_test 83 = .ok (.lload 9, 2) := dk_22 9 (dk_at dksX28_test_3 13 rfl rfl)
theorem dX28_test_85 : decode cX28_test 85 = .ok (.lmul, 1) := dk_105 (dk_at dksX28_test_3 15 rfl rfl)
theorem dX28_test_86 : decode cX28_test 86 = .ok (.ladd, 1) := dk_97 (dk_at dksX28_test_3 16 rfl rfl)
theorem dX28_test_87 : decode cX28_test 87 = .ok (.ldc2_w 201, 3) := dk_20 0 201 (dk_at dksX28_test_3 17 rfl rfl)
theorem dX28_test_90 : decode cX28_test 90 = .ok (.lload_n 2, 1) := dk_32 (dk_at dksX28_test_3 20 rfl rfl)
theorem dX28_test_91 : decode cX28_test 91 = .ok (.lmul, 1) := dk_105 (dk_at dksX28_test_3 21 rfl rfl)
theorem dX28_test_92 : decode cX28_test 92 = .ok (.lsub, 1) := dk_101 (dk_at dksX28_test_3 22 rfl rfl)
theorem dX28_test_93 : decode cX28_test 93 = .ok (.ldc2_w 117, 3) := dk_20 0 117 (dk_at dksX28_test_4 0 rfl rfl)
theorem dX28_test_96 : decode cX28_test 96 = .ok (.lload 5, 2) := dk_22 5 (dk_at dksX28_test_4 3 rfl rfl)
theorem dX28_test_98 : decode cX28_test 98 = .ok (.lmul, 1) := dk_105 (dk_at dksX28_test_4 5 rfl rfl)
theorem dX28_test_99 : decode cX28_test 99 = .ok (.lcmp, 1) := dk_148 (dk_at dksX28_test_4 6 rfl rfl)
theorem dX28_test_100 : decode cX28_test 100 = .ok (.ifCond .le 7, 3) := dk_158 0 7 (dk_at dksX28_test_4 7 rfl rfl)
theorem dX28_test_103 : decode cX28_test 103 = .ok (.iconst 1, 1) := dk_4 (dk_at dksX28_test_4 10 rfl rfl)
theorem dX28_test_104 : decode cX28_test 104 = .ok (.goto 4, 3) := dk_167 0 4 (dk_at dksX28_test_4 11 rfl rfl)
theorem dX28_test_107 : decode cX28_test 107 = .ok (.iconst 0, 1) := dk_3 (dk_at dksX28_test_4 14 rfl rfl)
theorem dX28_test_108 : decode cX28_test 108 = .ok (.ireturn, 1) := dk_172 (dk_at dksX28_test_4 15 rfl rfl)
abbrev cX28_stations : ByteArray := prog_2_method_35_code
def yX28_stations : MethodName := ⟨RX28, "stations", "(I)I"⟩
def dkwX28_stations_12 : List UInt8 := [136, 172]
abbrev dktX28_stations_12 : List UInt8 := dkwX28_stations_12 ++ []
def dkwX28_stations_11 : List UInt8 := [27, 182, 0, 214, 65, 42, 180, 0, 51, 3, 42, 180, 0, 48, 3, 16, 10, 184, 0, 217, 167, 255, 68, 32]
abbrev dktX28_stations_11 : List UInt8 := dkwX28_stations_11 ++ dktX28_stations_12
def dkwX28_stations_10 : List UInt8 := [21, 5, 2, 159, 0, 10, 21, 5, 54, 4, 167, 0, 34, 42, 27, 182, 0, 214, 32, 148, 156, 0, 24, 42]
abbrev dktX28_stations_10 : List UInt8 := dkwX28_stations_10 ++ dktX28_stations_11
def dkwX28_stations_9 : List UInt8 := [180, 0, 54, 42, 180, 0, 51, 21, 4, 46, 47, 32, 148, 156, 255, 123, 42, 21, 4, 182, 0, 205, 54, 5]
abbrev dktX28_stations_9 : List UInt8 := dkwX28_stations_9 ++ dktX28_stations_10
def dkwX28_stations_8 : List UInt8 := [180, 0, 9, 21, 4, 50, 180, 0, 84, 133, 97, 80, 42, 21, 4, 182, 0, 211, 153, 255, 140, 42]
abbrev dktX28_stations_8 : List UInt8 := dkwX28_stations_8 ++ dktX28_stations_9
def dkwX28_stations_7 : List UInt8 := [21, 4, 182, 0, 208, 54, 4, 167, 255, 175, 42, 180, 0, 54, 42, 180, 0, 51, 21, 4, 46, 92, 47, 42]
abbrev dktX28_stations_7 : List UInt8 := dkwX28_stations_7 ++ dktX28_stations_8
def dkwX28_stations_6 : List UInt8 := [4, 96, 79, 42, 180, 0, 51, 21, 4, 46, 27, 160, 0, 22, 42, 180, 0, 51, 21, 4, 2, 79, 42]
abbrev dktX28_stations_6 : List UInt8 := dkwX28_stations_6 ++ dktX28_stations_7
def dkwX28_stations_5 : List UInt8 := [46, 92, 47, 42, 180, 0, 9, 21, 4, 50, 180, 0, 84, 133, 101, 80, 42, 180, 0, 51, 21, 4, 92, 46]
abbrev dktX28_stations_5 : List UInt8 := dkwX28_stations_5 ++ dktX28_stations_6
def dkwX28_stations_4 : List UInt8 := [159, 0, 188, 42, 180, 0, 51, 21, 4, 46, 2, 159, 0, 29, 42, 180, 0, 54, 42, 180, 0, 51, 21, 4]
abbrev dktX28_stations_4 : List UInt8 := dkwX28_stations_4 ++ dktX28_stations_5
def dkwX28_stations_3 : List UInt8 := [180, 0, 51, 21, 5, 2, 79, 42, 180, 0, 48, 21, 5, 2, 79, 132, 5, 1, 167, 255, 230, 21, 4, 2]
abbrev dktX28_stations_3 : List UInt8 := dkwX28_stations_3 ++ dktX28_stations_4
def dkwX28_stations_2 : List UInt8 := [182, 0, 205, 54, 4, 21, 4, 2, 160, 0, 5, 9, 65, 3, 54, 5, 21, 5, 16, 10, 162, 0, 25, 42]
abbrev dktX28_stations_2 : List UInt8 := dkwX28_stations_2 ++ dktX28_stations_3
def dkwX28_stations_1 : List UInt8 := [54, 4, 21, 4, 27, 162, 0, 17, 42, 180, 0, 54, 21, 4, 9, 80, 132, 4, 1, 167, 255, 239, 42, 2]
abbrev dktX28_stations_1 : List UInt8 := dkwX28_stations_1 ++ dktX28_stations_2
def dkwX28_stations_0 : List UInt8 := [42, 180, 0, 188, 153, 0, 13, 27, 4, 161, 0, 8, 27, 7, 164, 0, 5, 2, 172, 20, 0, 203, 65, 3]
abbrev dktX28_stations_0 : List UInt8 := dkwX28_stations_0 ++ dktX28_stations_1
theorem dksX28_stations_0 : cX28_stations.data.toList.drop 0 = dktX28_stations_0 := by decide +kernel
theorem dksX28_stations_1 : cX28_stations.data.toList.drop 24 = dktX28_stations_1 := dk_seg dksX28_stations_0 24 rfl rfl
theorem dksX28_stations_2 : cX28_stations.data.toList.drop 48 = dktX28_stations_2 := dk_seg dksX28_stations_1 24 rfl rfl
theorem dksX28_stations_3 : cX28_stations.data.toList.drop 72 = dktX28_stations_3 := dk_seg dksX28_stations_2 24 rfl rfl
theorem dksX28_stations_4 : cX28_stations.data.toList.drop 96 = dktX28_stations_4 := dk_seg dksX28_stations_3 24 rfl rfl
theorem dksX28_stations_5 : cX28_stations.data.toList.drop 120 = dktX28_stations_5 := dk_seg dksX28_stations_4 24 rfl rfl
theorem dksX28_stations_6 : cX28_stations.data.toList.drop 144 = dktX28_stations_6 := dk_seg dksX28_stations_5 24 rfl rfl
theorem dksX28_stations_7 : cX28_stations.data.toList.drop 167 = dktX28_stations_7 := dk_seg dksX28_stations_6 23 rfl rfl
theorem dksX28_stations_8 : cX28_stations.data.toList.drop 191 = dktX28_stations_8 := dk_seg dksX28_stations_7 24 rfl rfl
theorem dksX28_stations_9 : cX28_stations.data.toList.drop 213 = dktX28_stations_9 := dk_seg dksX28_stations_8 22 rfl rfl
theorem dksX28_stations_10 : cX28_stations.data.toList.drop 237 = dktX28_stations_10 := dk_seg dksX28_stations_9 24 rfl rfl
theorem dksX28_stations_11 : cX28_stations.data.toList.drop 261 = dktX28_stations_11 := dk_seg dksX28_stations_10 24 rfl rfl
theorem dksX28_stations_12 : cX28_stations.data.toList.drop 285 = dktX28_stations_12 := dk_seg dksX28_stations_11 24 rfl rfl
theorem dX28_stations_0 : decode cX28_stations 0 = .ok (.aload_n 0, 1) := dk_42 (dk_at dksX28_stations_0 0 rfl rfl)
theorem dX28_stations_1 : decode cX28_stations 1 = .ok (.getfield 188, 3) := dk_180 0 188 (dk_at dksX28_stations_0 1 rfl rfl)
theorem dX28_stations_4 : decode cX28_stations 4 = .ok (.ifCond .eq 13, 3) := dk_153 0 13 (dk_at dksX28_stations_0 4 rfl rfl)
theorem dX28_stations_7 : decode cX28_stations 7 = .ok (.iload_n 1, 1) := dk_27 (dk_at dksX28_stations_0 7 rfl rfl)
theorem dX28_stations_8 : decode cX28_stations 8 = .ok (.iconst 1, 1) := dk_4 (dk_at dksX28_stations_0 8 rfl rfl)
theorem dX28_stations_9 : decode cX28_stations 9 = .ok (.if_icmp .lt 8, 3) := dk_161 0 8 (dk_at dksX28_stations_0 9 rfl rfl)
theorem dX28_stations_12 : decode cX28_stations 12 = .ok (.iload_n 1, 1) := dk_27 (dk_at dksX28_stations_0 12 rfl rfl)
theorem dX28_stations_13 : decode cX28_stations 13 = .ok (.iconst 4, 1) := dk_7 (dk_at dksX28_stations_0 13 rfl rfl)
theorem dX28_stations_14 : decode cX28_stations 14 = .ok (.if_icmp .le 5, 3) := dk_164 0 5 (dk_at dksX28_stations_0 14 rfl rfl)
theorem dX28_stations_17 : decode cX28_stations 17 = .ok (.iconst (-1), 1) := dk_2 (dk_at dksX28_stations_0 17 rfl rfl)
theorem dX28_stations_18 : decode cX28_stations 18 = .ok (.ireturn, 1) := dk_172 (dk_at dksX28_stations_0 18 rfl rfl)
theorem dX28_stations_19 : decode cX28_stations 19 = .ok (.ldc2_w 203, 3) := dk_20 0 203 (dk_at dksX28_stations_0 19 rfl rfl)
theorem dX28_stations_22 : decode cX28_stations 22 = .ok (.lstore_n 2, 1) := dk_65 (dk_at dksX28_stations_0 22 rfl rfl)
theorem dX28_stations_23 : decode cX28_stations 23 = .ok (.iconst 0, 1) := dk_3 (dk_at dksX28_stations_0 23 rfl rfl)
theorem dX28_stations_24 : decode cX28_stations 24 = .ok (.istore 4, 2) := dk_54 4 (dk_at dksX28_stations_1 0 rfl rfl)
theorem dX28_stations_26 : decode cX28_stations 26 = .ok (.iload 4, 2) := dk_21 4 (dk_at dksX28_stations_1 2 rfl rfl)
theorem dX28_stations_28 : decode cX28_stations 28 = .ok (.iload_n 1, 1) := dk_27 (dk_at dksX28_stations_1 4 rfl rfl)
theorem dX28_stations_29 : decode cX28_stations 29 = .ok (.if_icmp .ge 17, 3) := dk_162 0 17 (dk_at dksX28_stations_1 5 rfl rfl)
theorem dX28_stations_32 : decode cX28_stations 32 = .ok (.aload_n 0, 1) := dk_42 (dk_at dksX28_stations_1 8 rfl rfl)
theorem dX28_stations_33 : decode cX28_stations 33 = .ok (.getfield 54, 3) := dk_180 0 54 (dk_at dksX28_stations_1 9 rfl rfl)
theorem dX28_stations_36 : decode cX28_stations 36 = .ok (.iload 4, 2) := dk_21 4 (dk_at dksX28_stations_1 12 rfl rfl)
theorem dX28_stations_38 : decode cX28_stations 38 = .ok (.lconst 0, 1) := dk_9 (dk_at dksX28_stations_1 14 rfl rfl)
theorem dX28_stations_39 : decode cX28_stations 39 = .ok (.lastore, 1) := dk_80 (dk_at dksX28_stations_1 15 rfl rfl)
theorem dX28_stations_40 : decode cX28_stations 40 = .ok (.iinc 4 1, 3) := dk_132 4 1 (dk_at dksX28_stations_1 16 rfl rfl)
theorem dX28_stations_43 : decode cX28_stations 43 = .ok (.goto (-17), 3) := dk_167 255 239 (dk_at dksX28_stations_1 19 rfl rfl)
theorem dX28_stations_46 : decode cX28_stations 46 = .ok (.aload_n 0, 1) := dk_42 (dk_at dksX28_stations_1 22 rfl rfl)
theorem dX28_stations_47 : decode cX28_stations 47 = .ok (.iconst (-1), 1) := dk_2 (dk_at dksX28_stations_1 23 rfl rfl)
theorem dX28_stations_48 : decode cX28_stations 48 = .ok (.invokevirtual 205, 3) := dk_182 0 205 (dk_at dksX28_stations_2 0 rfl rfl)
theorem dX28_stations_51 : decode cX28_stations 51 = .ok (.istore 4, 2) := dk_54 4 (dk_at dksX28_stations_2 3 rfl rfl)
theorem dX28_stations_53 : decode cX28_stations 53 = .ok (.iload 4, 2) := dk_21 4 (dk_at dksX28_stations_2 5 rfl rfl)
theorem dX28_stations_55 : decode cX28_stations 55 = .ok (.iconst (-1), 1) := dk_2 (dk_at dksX28_stations_2 7 rfl rfl)
theorem dX28_stations_56 : decode cX28_stations 56 = .ok (.if_icmp .ne 5, 3) := dk_160 0 5 (dk_at dksX28_stations_2 8 rfl rfl)
theorem dX28_stations_59 : decode cX28_stations 59 = .ok (.lconst 0, 1) := dk_9 (dk_at dksX28_stations_2 11 rfl rfl)
theorem dX28_stations_60 : decode cX28_stations 60 = .ok (.lstore_n 2, 1) := dk_65 (dk_at dksX28_stations_2 12 rfl rfl)
theorem dX28_stations_61 : decode cX28_stations 61 = .ok (.iconst 0, 1) := dk_3 (dk_at dksX28_stations_2 13 rfl rfl)
theorem dX28_stations_62 : decode cX28_stations 62 = .ok (.istore 5, 2) := dk_54 5 (dk_at dksX28_stations_2 14 rfl rfl)
theorem dX28_stations_64 : decode cX28_stations 64 = .ok (.iload 5, 2) := dk_21 5 (dk_at dksX28_stations_2 16 rfl rfl)
theorem dX28_stations_66 : decode cX28_stations 66 = .ok (.bipush 10, 2) := dk_16 10 (dk_at dksX28_stations_2 18 rfl rfl)
theorem dX28_stations_68 : decode cX28_stations 68 = .ok (.if_icmp .ge 25, 3) := dk_162 0 25 (dk_at dksX28_stations_2 20 rfl rfl)
theorem dX28_stations_71 : decode cX28_stations 71 = .ok (.aload_n 0, 1) := dk_42 (dk_at dksX28_stations_2 23 rfl rfl)
theorem dX28_stations_72 : decode cX28_stations 72 = .ok (.getfield 51, 3) := dk_180 0 51 (dk_at dksX28_stations_3 0 rfl rfl)
theorem dX28_stations_75 : decode cX28_stations 75 = .ok (.iload 5, 2) := dk_21 5 (dk_at dksX28_stations_3 3 rfl rfl)
theorem dX28_stations_77 : decode cX28_stations 77 = .ok (.iconst (-1), 1) := dk_2 (dk_at dksX28_stations_3 5 rfl rfl)
theorem dX28_stations_78 : decode cX28_stations 78 = .ok (.iastore, 1) := dk_79 (dk_at dksX28_stations_3 6 rfl rfl)
theorem dX28_stations_79 : decode cX28_stations 79 = .ok (.aload_n 0, 1) := dk_42 (dk_at dksX28_stations_3 7 rfl rfl)
theorem dX28_stations_80 : decode cX28_stations 80 = .ok (.getfield 48, 3) := dk_180 0 48 (dk_at dksX28_stations_3 8 rfl rfl)
theorem dX28_stations_83 : decode cX28_stations 83 = .ok (.iload 5, 2) := dk_21 5 (dk_at dksX28_stations_3 11 rfl rfl)
theorem dX28_stations_85 : decode cX28_stations 85 = .ok (.iconst (-1), 1) := dk_2 (dk_at dksX28_stations_3 13 rfl rfl)
theorem dX28_stations_86 : decode cX28_stations 86 = .ok (.iastore, 1) := dk_79 (dk_at dksX28_stations_3 14 rfl rfl)
theorem dX28_stations_87 : decode cX28_stations 87 = .ok (.iinc 5 1, 3) := dk_132 5 1 (dk_at dksX28_stations_3 15 rfl rfl)
theorem dX28_stations_90 : decode cX28_stations 90 = .ok (.goto (-26), 3) := dk_167 255 230 (dk_at dksX28_stations_3 18 rfl rfl)
theorem dX28_stations_93 : decode cX28_stations 93 = .ok (.iload 4, 2) := dk_21 4 (dk_at dksX28_stations_3 21 rfl rfl)
theorem dX28_stations_95 : decode cX28_stations 95 = .ok (.iconst (-1), 1) := dk_2 (dk_at dksX28_stations_3 23 rfl rfl)
theorem dX28_stations_96 : decode cX28_stations 96 = .ok (.if_icmp .eq 188, 3) := dk_159 0 188 (dk_at dksX28_stations_4 0 rfl rfl)
theorem dX28_stations_99 : decode cX28_stations 99 = .ok (.aload_n 0, 1) := dk_42 (dk_at dksX28_stations_4 3 rfl rfl)
theorem dX28_stations_100 : decode cX28_stations 100 = .ok (.getfield 51, 3) := dk_180 0 51 (dk_at dksX28_stations_4 4 rfl rfl)
theorem dX28_stations_103 : decode cX28_stations 103 = .ok (.iload 4, 2) := dk_21 4 (dk_at dksX28_stations_4 7 rfl rfl)
theorem dX28_stations_105 : decode cX28_stations 105 = .ok (.iaload, 1) := dk_46 (dk_at dksX28_stations_4 9 rfl rfl)
theorem dX28_stations_106 : decode cX28_stations 106 = .ok (.iconst (-1), 1) := dk_2 (dk_at dksX28_stations_4 10 rfl rfl)
theorem dX28_stations_107 : decode cX28_stations 107 = .ok (.if_icmp .eq 29, 3) := dk_159 0 29 (dk_at dksX28_stations_4 11 rfl rfl)
theorem dX28_stations_110 : decode cX28_stations 110 = .ok (.aload_n 0, 1) := dk_42 (dk_at dksX28_stations_4 14 rfl rfl)
theorem dX28_stations_111 : decode cX28_stations 111 = .ok (.getfield 54, 3) := dk_180 0 54 (dk_at dksX28_stations_4 15 rfl rfl)
theorem dX28_stations_114 : decode cX28_stations 114 = .ok (.aload_n 0, 1) := dk_42 (dk_at dksX28_stations_4 18 rfl rfl)
theorem dX28_stations_115 : decode cX28_stations 115 = .ok (.getfield 51, 3) := dk_180 0 51 (dk_at dksX28_stations_4 19 rfl rfl)
theorem dX28_stations_118 : decode cX28_stations 118 = .ok (.iload 4, 2) := dk_21 4 (dk_at dksX28_stations_4 22 rfl rfl)
theorem dX28_stations_120 : decode cX28_stations 120 = .ok (.iaload, 1) := dk_46 (dk_at dksX28_stations_5 0 rfl rfl)
theorem dX28_stations_121 : decode cX28_stations 121 = .ok (.dup2, 1) := dk_92 (dk_at dksX28_stations_5 1 rfl rfl)
theorem dX28_stations_122 : decode cX28_stations 122 = .ok (.laload, 1) := dk_47 (dk_at dksX28_stations_5 2 rfl rfl)
theorem dX28_stations_123 : decode cX28_stations 123 = .ok (.aload_n 0, 1) := dk_42 (dk_at dksX28_stations_5 3 rfl rfl)
theorem dX28_stations_124 : decode cX28_stations 124 = .ok (.getfield 9, 3) := dk_180 0 9 (dk_at dksX28_stations_5 4 rfl rfl)
theorem dX28_stations_127 : decode cX28_stations 127 = .ok (.iload 4, 2) := dk_21 4 (dk_at dksX28_stations_5 7 rfl rfl)
theorem dX28_stations_129 : decode cX28_stations 129 = .ok (.aaload, 1) := dk_50 (dk_at dksX28_stations_5 9 rfl rfl)
theorem dX28_stations_130 : decode cX28_stations 130 = .ok (.getfield 84, 3) := dk_180 0 84 (dk_at dksX28_stations_5 10 rfl rfl)
theorem dX28_stations_133 : decode cX28_stations 133 = .ok (.i2l, 1) := dk_133 (dk_at dksX28_stations_5 13 rfl rfl)
theorem dX28_stations_134 : decode cX28_stations 134 = .ok (.lsub, 1) := dk_101 (dk_at dksX28_stations_5 14 rfl rfl)
theorem dX28_stations_135 : decode cX28_stations 135 = .ok (.lastore, 1) := dk_80 (dk_at dksX28_stations_5 15 rfl rfl)
theorem dX28_stations_136 : decode cX28_stations 136 = .ok (.aload_n 0, 1) := dk_42 (dk_at dksX28_stations_5 16 rfl rfl)
theorem dX28_stations_137 : decode cX28_stations 137 = .ok (.getfield 51, 3) := dk_180 0 51 (dk_at dksX28_stations_5 17 rfl rfl)
theorem dX28_stations_140 : decode cX28_stations 140 = .ok (.iload 4, 2) := dk_21 4 (dk_at dksX28_stations_5 20 rfl rfl)
theorem dX28_stations_142 : decode cX28_stations 142 = .ok (.dup2, 1) := dk_92 (dk_at dksX28_stations_5 22 rfl rfl)
theorem dX28_stations_143 : decode cX28_stations 143 = .ok (.iaload, 1) := dk_46 (dk_at dksX28_stations_5 23 rfl rfl)
theorem dX28_stations_144 : decode cX28_stations 144 = .ok (.iconst 1, 1) := dk_4 (dk_at dksX28_stations_6 0 rfl rfl)
theorem dX28_stations_145 : decode cX28_stations 145 = .ok (.iadd, 1) := dk_96 (dk_at dksX28_stations_6 1 rfl rfl)
theorem dX28_stations_146 : decode cX28_stations 146 = .ok (.iastore, 1) := dk_79 (dk_at dksX28_stations_6 2 rfl rfl)
theorem dX28_stations_147 : decode cX28_stations 147 = .ok (.aload_n 0, 1) := dk_42 (dk_at dksX28_stations_6 3 rfl rfl)
theorem dX28_stations_148 : decode cX28_stations 148 = .ok (.getfield 51, 3) := dk_180 0 51 (dk_at dksX28_stations_6 4 rfl rfl)
theorem dX28_stations_151 : decode cX28_stations 151 = .ok (.iload 4, 2) := dk_21 4 (dk_at dksX28_stations_6 7 rfl rfl)
theorem dX28_stations_153 : decode cX28_stations 153 = .ok (.iaload, 1) := dk_46 (dk_at dksX28_stations_6 9 rfl rfl)
theorem dX28_stations_154 : decode cX28_stations 154 = .ok (.iload_n 1, 1) := dk_27 (dk_at dksX28_stations_6 10 rfl rfl)
theorem dX28_stations_155 : decode cX28_stations 155 = .ok (.if_icmp .ne 22, 3) := dk_160 0 22 (dk_at dksX28_stations_6 11 rfl rfl)
theorem dX28_stations_158 : decode cX28_stations 158 = .ok (.aload_n 0, 1) := dk_42 (dk_at dksX28_stations_6 14 rfl rfl)
theorem dX28_stations_159 : decode cX28_stations 159 = .ok (.getfield 51, 3) := dk_180 0 51 (dk_at dksX28_stations_6 15 rfl rfl)
theorem dX28_stations_162 : decode cX28_stations 162 = .ok (.iload 4, 2) := dk_21 4 (dk_at dksX28_stations_6 18 rfl rfl)
theorem dX28_stations_164 : decode cX28_stations 164 = .ok (.iconst (-1), 1) := dk_2 (dk_at dksX28_stations_6 20 rfl rfl)
theorem dX28_stations_165 : decode cX28_stations 165 = .ok (.iastore, 1) := dk_79 (dk_at dksX28_stations_6 21 rfl rfl)
theorem dX28_stations_166 : decode cX28_stations 166 = .ok (.aload_n 0, 1) := dk_42 (dk_at dksX28_stations_6 22 rfl rfl)
theorem dX28_stations_167 : decode cX28_stations 167 = .ok (.iload 4, 2) := dk_21 4 (dk_at dksX28_stations_7 0 rfl rfl)
theorem dX28_stations_169 : decode cX28_stations 169 = .ok (.invokevirtual 208, 3) := dk_182 0 208 (dk_at dksX28_stations_7 2 rfl rfl)
theorem dX28_stations_172 : decode cX28_stations 172 = .ok (.istore 4, 2) := dk_54 4 (dk_at dksX28_stations_7 5 rfl rfl)
theorem dX28_stations_174 : decode cX28_stations 174 = .ok (.goto (-81), 3) := dk_167 255 175 (dk_at dksX28_stations_7 7 rfl rfl)
theorem dX28_stations_177 : decode cX28_stations 177 = .ok (.aload_n 0, 1) := dk_42 (dk_at dksX28_stations_7 10 rfl rfl)
theorem dX28_stations_178 : decode cX28_stations 178 = .ok (.getfield 54, 3) := dk_180 0 54 (dk_at dksX28_stations_7 11 rfl rfl)
theorem dX28_stations_181 : decode cX28_stations 181 = .ok (.aload_n 0, 1) := dk_42 (dk_at dksX28_stations_7 14 rfl rfl)
theorem dX28_stations_182 : decode cX28_stations 182 = .ok (.getfield 51, 3) := dk_180 0 51 (dk_at dksX28_stations_7 15 rfl rfl)
theorem dX28_stations_185 : decode cX28_stations 185 = .ok (.iload 4, 2) := dk_21 4 (dk_at dksX28_stations_7 18 rfl rfl)
theorem dX28_stations_187 : decode cX28_stations 187 = .ok (.iaload, 1) := dk_46 (dk_at dksX28_stations_7 20 rfl rfl)
theorem dX28_stations_188 : decode cX28_stations 188 = .ok (.dup2, 1) := dk_92 (dk_at dksX28_stations_7 21 rfl rfl)
theorem dX28_stations_189 : decode cX28_stations 189 = .ok (.laload, 1) := dk_47 (dk_at dksX28_stations_7 22 rfl rfl)
theorem dX28_stations_190 : decode cX28_stations 190 = .ok (.aload_n 0, 1) := dk_42 (dk_at dksX28_stations_7 23 rfl rfl)
theorem dX28_stations_191 : decode cX28_stations 191 = .ok (.getfield 9, 3) := dk_180 0 9 (dk_at dksX28_stations_8 0 rfl rfl)
theorem dX28_stations_194 : decode cX28_stations 194 = .ok (.iload 4, 2) := dk_21 4 (dk_at dksX28_stations_8 3 rfl rfl)
theorem dX28_stations_196 : decode cX28_stations 196 = .ok (.aaload, 1) := dk_50 (dk_at dksX28_stations_8 5 rfl rfl)
theorem dX28_stations_197 : decode cX28_stations 197 = .ok (.getfield 84, 3) := dk_180 0 84 (dk_at dksX28_stations_8 6 rfl rfl)
theorem dX28_stations_200 : decode cX28_stations 200 = .ok (.i2l, 1) := dk_133 (dk_at dksX28_stations_8 9 rfl rfl)
theorem dX28_stations_201 : decode cX28_stations 201 = .ok (.ladd, 1) := dk_97 (dk_at dksX28_stations_8 10 rfl rfl)
theorem dX28_stations_202 : decode cX28_stations 202 = .ok (.lastore, 1) := dk_80 (dk_at dksX28_stations_8 11 rfl rfl)
theorem dX28_stations_203 : decode cX28_stations 203 = .ok (.aload_n 0, 1) := dk_42 (dk_at dksX28_stations_8 12 rfl rfl)
theorem dX28_stations_204 : decode cX28_stations 204 = .ok (.iload 4, 2) := dk_21 4 (dk_at dksX28_stations_8 13 rfl rfl)
theorem dX28_stations_206 : decode cX28_stations 206 = .ok (.invokevirtual 211, 3) := dk_182 0 211 (dk_at dksX28_stations_8 15 rfl rfl)
theorem dX28_stations_209 : decode cX28_stations 209 = .ok (.ifCond .eq (-116), 3) := dk_153 255 140 (dk_at dksX28_stations_8 18 rfl rfl)
theorem dX28_stations_212 : decode cX28_stations 212 = .ok (.aload_n 0, 1) := dk_42 (dk_at dksX28_stations_8 21 rfl rfl)
theorem dX28_stations_213 : decode cX28_stations 213 = .ok (.getfield 54, 3) := dk_180 0 54 (dk_at dksX28_stations_9 0 rfl rfl)
theorem dX28_stations_216 : decode cX28_stations 216 = .ok (.aload_n 0, 1) := dk_42 (dk_at dksX28_stations_9 3 rfl rfl)
theorem dX28_stations_217 : decode cX28_stations 217 = .ok (.getfield 51, 3) := dk_180 0 51 (dk_at dksX28_stations_9 4 rfl rfl)
theorem dX28_stations_220 : decode cX28_stations 220 = .ok (.iload 4, 2) := dk_21 4 (dk_at dksX28_stations_9 7 rfl rfl)
theorem dX28_stations_222 : decode cX28_stations 222 = .ok (.iaload, 1) := dk_46 (dk_at dksX28_stations_9 9 rfl rfl)
theorem dX28_stations_223 : decode cX28_stations 223 = .ok (.laload, 1) := dk_47 (dk_at dksX28_stations_9 10 rfl rfl)
theorem dX28_stations_224 : decode cX28_stations 224 = .ok (.lload_n 2, 1) := dk_32 (dk_at dksX28_stations_9 11 rfl rfl)
theorem dX28_stations_225 : decode cX28_stations 225 = .ok (.lcmp, 1) := dk_148 (dk_at dksX28_stations_9 12 rfl rfl)
theorem dX28_stations_226 : decode cX28_stations 226 = .ok (.ifCond .ge (-133), 3) := dk_156 255 123 (dk_at dksX28_stations_9 13 rfl rfl)
theorem dX28_stations_229 : decode cX28_stations 229 = .ok (.aload_n 0, 1) := dk_42 (dk_at dksX28_stations_9 16 rfl rfl)
theorem dX28_stations_230 : decode cX28_stations 230 = .ok (.iload 4, 2) := dk_21 4 (dk_at dksX28_stations_9 17 rfl rfl)
theorem dX28_stations_232 : decode cX28_stations 232 = .ok (.invokevirtual 205, 3) := dk_182 0 205 (dk_at dksX28_stations_9 19 rfl rfl)
theorem dX28_stations_235 : decode cX28_stations 235 = .ok (.istore 5, 2) := dk_54 5 (dk_at dksX28_stations_9 22 rfl rfl)
theorem dX28_stations_237 : decode cX28_stations 237 = .ok (.iload 5, 2) := dk_21 5 (dk_at dksX28_stations_10 0 rfl rfl)
theorem dX28_stations_239 : decode cX28_stations 239 = .ok (.iconst (-1), 1) := dk_2 (dk_at dksX28_stations_10 2 rfl rfl)
theorem dX28_stations_240 : decode cX28_stations 240 = .ok (.if_icmp .eq 10, 3) := dk_159 0 10 (dk_at dksX28_stations_10 3 rfl rfl)
theorem dX28_stations_243 : decode cX28_stations 243 = .ok (.iload 5, 2) := dk_21 5 (dk_at dksX28_stations_10 6 rfl rfl)
theorem dX28_stations_245 : decode cX28_stations 245 = .ok (.istore 4, 2) := dk_54 4 (dk_at dksX28_stations_10 8 rfl rfl)
theorem dX28_stations_247 : decode cX28_stations 247 = .ok (.goto 34, 3) := dk_167 0 34 (dk_at dksX28_stations_10 10 rfl rfl)
theorem dX28_stations_250 : decode cX28_stations 250 = .ok (.aload_n 0, 1) := dk_42 (dk_at dksX28_stations_10 13 rfl rfl)
theorem dX28_stations_251 : decode cX28_stations 251 = .ok (.iload_n 1, 1) := dk_27 (dk_at dksX28_stations_10 14 rfl rfl)
theorem dX28_stations_252 : decode cX28_stations 252 = .ok (.invokevirtual 214, 3) := dk_182 0 214 (dk_at dksX28_stations_10 15 rfl rfl)
theorem dX28_stations_255 : decode cX28_stations 255 = .ok (.lload_n 2, 1) := dk_32 (dk_at dksX28_stations_10 18 rfl rfl)
theorem dX28_stations_256 : decode cX28_stations 256 = .ok (.lcmp, 1) := dk_148 (dk_at dksX28_stations_10 19 rfl rfl)
theorem dX28_stations_257 : decode cX28_stations 257 = .ok (.ifCond .ge 24, 3) := dk_156 0 24 (dk_at dksX28_stations_10 20 rfl rfl)
theorem dX28_stations_260 : decode cX28_stations 260 = .ok (.aload_n 0, 1) := dk_42 (dk_at dksX28_stations_10 23 rfl rfl)
theorem dX28_stations_261 : decode cX28_stations 261 = .ok (.iload_n 1, 1) := dk_27 (dk_at dksX28_stations_11 0 rfl rfl)
theorem dX28_stations_262 : decode cX28_stations 262 = .ok (.invokevirtual 214, 3) := dk_182 0 214 (dk_at dksX28_stations_11 1 rfl rfl)
theorem dX28_stations_265 : decode cX28_stations 265 = .ok (.lstore_n 2, 1) := dk_65 (dk_at dksX28_stations_11 4 rfl rfl)
theorem dX28_stations_266 : decode cX28_stations 266 = .ok (.aload_n 0, 1) := dk_42 (dk_at dksX28_stations_11 5 rfl rfl)
theorem dX28_stations_267 : decode cX28_stations 267 = .ok (.getfield 51, 3) := dk_180 0 51 (dk_at dksX28_stations_11 6 rfl rfl)
theorem dX28_stations_270 : decode cX28_stations 270 = .ok (.iconst 0, 1) := dk_3 (dk_at dksX28_stations_11 9 rfl rfl)
theorem dX28_stations_271 : decode cX28_stations 271 = .ok (.aload_n 0, 1) := dk_42 (dk_at dksX28_stations_11 10 rfl rfl)
theorem dX28_stations_272 : decode cX28_stations 272 = .ok (.getfield 48, 3) := dk_180 0 48 (dk_at dksX28_stations_11 11 rfl rfl)
theorem dX28_stations_275 : decode cX28_stations 275 = .ok (.iconst 0, 1) := dk_3 (dk_at dksX28_stations_11 14 rfl rfl)
theorem dX28_stations_276 : decode cX28_stations 276 = .ok (.bipush 10, 2) := dk_16 10 (dk_at dksX28_stations_11 15 rfl rfl)
theorem dX28_stations_278 : decode cX28_stations 278 = .ok (.invokestatic 217, 3) := dk_184 0 217 (dk_at dksX28_stations_11 17 rfl rfl)
theorem dX28_stations_281 : decode cX28_stations 281 = .ok (.goto (-188), 3) := dk_167 255 68 (dk_at dksX28_stations_11 20 rfl rfl)
theorem dX28_stations_284 : decode cX28_stations 284 = .ok (.lload_n 2, 1) := dk_32 (dk_at dksX28_stations_11 23 rfl rfl)
theorem dX28_stations_285 : decode cX28_stations 285 = .ok (.l2i, 1) := dk_136 (dk_at dksX28_stations_12 0 rfl rfl)
theorem dX28_stations_286 : decode cX28_stations 286 = .ok (.ireturn, 1) := dk_172 (dk_at dksX28_stations_12 1 rfl rfl)
abbrev cX28_nextOf : ByteArray := prog_2_method_36_code
def yX28_nextOf : MethodName := ⟨RX28, "nextOf", "(I)I"⟩
def dkwX28_nextOf_1 : List UInt8 := [167, 255, 236, 28, 16, 10, 162, 0, 7, 28, 167, 0, 4, 2, 172]
abbrev dktX28_nextOf_1 : List UInt8 := dkwX28_nextOf_1 ++ []
def dkwX28_nextOf_0 : List UInt8 := [27, 4, 96, 61, 28, 16, 10, 162, 0, 20, 42, 180, 0, 179, 28, 122, 4, 126, 154, 0, 9, 132, 2, 1]
abbrev dktX28_nextOf_0 : List UInt8 := dkwX28_nextOf_0 ++ dktX28_nextOf_1
theorem dksX28_nextOf_0 : cX28_nextOf.data.toList.drop 0 = dktX28_nextOf_0 := by decide +kernel
theorem dksX28_nextOf_1 : cX28_nextOf.data.toList.drop 24 = dktX28_nextOf_1 := dk_seg dksX28_nextOf_0 24 rfl rfl
theorem dX28_nextOf_0 : decode cX28_nextOf 0 = .ok (.iload_n 1, 1) := dk_27 (dk_at dksX28_nextOf_0 0 rfl rfl)
theorem dX28_nextOf_1 : decode cX28_nextOf 1 = .ok (.iconst 1, 1) := dk_4 (dk_at dksX28_nextOf_0 1 rfl rfl)
theorem dX28_nextOf_2 : decode cX28_nextOf 2 = .ok (.iadd, 1) := dk_96 (dk_at dksX28_nextOf_0 2 rfl rfl)
theorem dX28_nextOf_3 : decode cX28_nextOf 3 = .ok (.istore_n 2, 1) := dk_61 (dk_at dksX28_nextOf_0 3 rfl rfl)
theorem dX28_nextOf_4 : decode cX28_nextOf 4 = .ok (.iload_n 2, 1) := dk_28 (dk_at dksX28_nextOf_0 4 rfl rfl)
theorem dX28_nextOf_5 : decode cX28_nextOf 5 = .ok (.bipush 10, 2) := dk_16 10 (dk_at dksX28_nextOf_0 5 rfl rfl)
theorem dX28_nextOf_7 : decode cX28_nextOf 7 = .ok (.if_icmp .ge 20, 3) := dk_162 0 20 (dk_at dksX28_nextOf_0 7 rfl rfl)
theorem dX28_nextOf_10 : decode cX28_nextOf 10 = .ok (.aload_n 0, 1) := dk_42 (dk_at dksX28_nextOf_0 10 rfl rfl)
theorem dX28_nextOf_11 : decode cX28_nextOf 11 = .ok (.getfield 179, 3) := dk_180 0 179 (dk_at dksX28_nextOf_0 11 rfl rfl)
theorem dX28_nextOf_14 : decode cX28_nextOf 14 = .ok (.iload_n 2, 1) := dk_28 (dk_at dksX28_nextOf_0 14 rfl rfl)
theorem dX28_nextOf_15 : decode cX28_nextOf 15 = .ok (.ishr, 1) := dk_122 (dk_at dksX28_nextOf_0 15 rfl rfl)
theorem dX28_nextOf_16 : decode cX28_nextOf 16 = .ok (.iconst 1, 1) := dk_4 (dk_at dksX28_nextOf_0 16 rfl rfl)
theorem dX28_nextOf_17 : decode cX28_nextOf 17 = .ok (.iand, 1) := dk_126 (dk_at dksX28_nextOf_0 17 rfl rfl)
theorem dX28_nextOf_18 : decode cX28_nextOf 18 = .ok (.ifCond .ne 9, 3) := dk_154 0 9 (dk_at dksX28_nextOf_0 18 rfl rfl)
theorem dX28_nextOf_21 : decode cX28_nextOf 21 = .ok (.iinc 2 1, 3) := dk_132 2 1 (dk_at dksX28_nextOf_0 21 rfl rfl)
theorem dX28_nextOf_24 : decode cX28_nextOf 24 = .ok (.goto (-20), 3) := dk_167 255 236 (dk_at dksX28_nextOf_1 0 rfl rfl)
theorem dX28_nextOf_27 : decode cX28_nextOf 27 = .ok (.iload_n 2, 1) := dk_28 (dk_at dksX28_nextOf_1 3 rfl rfl)
theorem dX28_nextOf_28 : decode cX28_nextOf 28 = .ok (.bipush 10, 2) := dk_16 10 (dk_at dksX28_nextOf_1 4 rfl rfl)
theorem dX28_nextOf_30 : decode cX28_nextOf 30 = .ok (.if_icmp .ge 7, 3) := dk_162 0 7 (dk_at dksX28_nextOf_1 6 rfl rfl)
theorem dX28_nextOf_33 : decode cX28_nextOf 33 = .ok (.iload_n 2, 1) := dk_28 (dk_at dksX28_nextOf_1 9 rfl rfl)
theorem dX28_nextOf_34 : decode cX28_nextOf 34 = .ok (.goto 4, 3) := dk_167 0 4 (dk_at dksX28_nextOf_1 10 rfl rfl)
theorem dX28_nextOf_37 : decode cX28_nextOf 37 = .ok (.iconst (-1), 1) := dk_2 (dk_at dksX28_nextOf_1 13 rfl rfl)
theorem dX28_nextOf_38 : decode cX28_nextOf 38 = .ok (.ireturn, 1) := dk_172 (dk_at dksX28_nextOf_1 14 rfl rfl)
abbrev cX28_lastOf : ByteArray := prog_2_method_37_code
def yX28_lastOf : MethodName := ⟨RX28, "lastOf", "(I)I"⟩
def dkwX28_lastOf_1 : List UInt8 := [167, 255, 238, 28, 172]
abbrev dktX28_lastOf_1 : List UInt8 := dkwX28_lastOf_1 ++ []
def dkwX28_lastOf_0 : List UInt8 := [27, 4, 100, 61, 28, 155, 0, 20, 42, 180, 0, 179, 28, 122, 4, 126, 154, 0, 9, 132, 2, 255]
abbrev dktX28_lastOf_0 : List UInt8 := dkwX28_lastOf_0 ++ dktX28_lastOf_1
theorem dksX28_lastOf_0 : cX28_lastOf.data.toList.drop 0 = dktX28_lastOf_0 := by decide +kernel
theorem dksX28_lastOf_1 : cX28_lastOf.data.toList.drop 22 = dktX28_lastOf_1 := dk_seg dksX28_lastOf_0 22 rfl rfl
theorem dX28_lastOf_0 : decode cX28_lastOf 0 = .ok (.iload_n 1, 1) := dk_27 (dk_at dksX28_lastOf_0 0 rfl rfl)
theorem dX28_lastOf_1 : decode cX28_lastOf 1 = .ok (.iconst 1, 1) := dk_4 (dk_at dksX28_lastOf_0 1 rfl rfl)
theorem dX28_lastOf_2 : decode cX28_lastOf 2 = .ok (.isub, 1) := dk_100 (dk_at dksX28_lastOf_0 2 rfl rfl)
theorem dX28_lastOf_3 : decode cX28_lastOf 3 = .ok (.istore_n 2, 1) := dk_61 (dk_at dksX28_lastOf_0 3 rfl rfl)
theorem dX28_lastOf_4 : decode cX28_lastOf 4 = .ok (.iload_n 2, 1) := dk_28 (dk_at dksX28_lastOf_0 4 rfl rfl)
theorem dX28_lastOf_5 : decode cX28_lastOf 5 = .ok (.ifCond .lt 20, 3) := dk_155 0 20 (dk_at dksX28_lastOf_0 5 rfl rfl)
theorem dX28_lastOf_8 : decode cX28_lastOf 8 = .ok (.aload_n 0, 1) := dk_42 (dk_at dksX28_lastOf_0 8 rfl rfl)
theorem dX28_lastOf_9 : decode cX28_lastOf 9 = .ok (.getfield 179, 3) := dk_180 0 179 (dk_at dksX28_lastOf_0 9 rfl rfl)
theorem dX28_lastOf_12 : decode cX28_lastOf 12 = .ok (.iload_n 2, 1) := dk_28 (dk_at dksX28_lastOf_0 12 rfl rfl)
theorem dX28_lastOf_13 : decode cX28_lastOf 13 = .ok (.ishr, 1) := dk_122 (dk_at dksX28_lastOf_0 13 rfl rfl)
theorem dX28_lastOf_14 : decode cX28_lastOf 14 = .ok (.iconst 1, 1) := dk_4 (dk_at dksX28_lastOf_0 14 rfl rfl)
theorem dX28_lastOf_15 : decode cX28_lastOf 15 = .ok (.iand, 1) := dk_126 (dk_at dksX28_lastOf_0 15 rfl rfl)
theorem dX28_lastOf_16 : decode cX28_lastOf 16 = .ok (.ifCond .ne 9, 3) := dk_154 0 9 (dk_at dksX28_lastOf_0 16 rfl rfl)
theorem dX28_lastOf_19 : decode cX28_lastOf 19 = .ok (.iinc 2 (-1), 3) := dk_132 2 255 (dk_at dksX28_lastOf_0 19 rfl rfl)
theorem dX28_lastOf_22 : decode cX28_lastOf 22 = .ok (.goto (-18), 3) := dk_167 255 238 (dk_at dksX28_lastOf_1 0 rfl rfl)
theorem dX28_lastOf_25 : decode cX28_lastOf 25 = .ok (.iload_n 2, 1) := dk_28 (dk_at dksX28_lastOf_1 3 rfl rfl)
theorem dX28_lastOf_26 : decode cX28_lastOf 26 = .ok (.ireturn, 1) := dk_172 (dk_at dksX28_lastOf_1 4 rfl rfl)
abbrev cX28_isAllowed : ByteArray := prog_2_method_38_code
def yX28_isAllowed : MethodName := ⟨RX28, "isAllowed", "(I)Z"⟩
def dkwX28_isAllowed_4 : List UInt8 := [132, 3, 1, 167, 255, 164, 28, 172]
abbrev dktX28_isAllowed_4 : List UInt8 := dkwX28_isAllowed_4 ++ []
def dkwX28_isAllowed_3 : List UInt8 := [153, 0, 18, 42, 180, 0, 51, 27, 46, 42, 180, 0, 51, 29, 46, 163, 0, 7, 4, 167, 0, 4, 3, 61]
abbrev dktX28_isAllowed_3 : List UInt8 := dkwX28_isAllowed_3 ++ dktX28_isAllowed_4
def dkwX28_isAllowed_2 : List UInt8 := [46, 42, 180, 0, 51, 27, 46, 163, 0, 38, 42, 180, 0, 9, 29, 50, 180, 0, 94, 27, 122, 4, 126]
abbrev dktX28_isAllowed_2 : List UInt8 := dkwX28_isAllowed_2 ++ dktX28_isAllowed_3
def dkwX28_isAllowed_1 : List UInt8 := [160, 0, 71, 42, 180, 0, 9, 27, 50, 180, 0, 94, 29, 122, 4, 126, 153, 0, 18, 42, 180, 0, 51, 29]
abbrev dktX28_isAllowed_1 : List UInt8 := dkwX28_isAllowed_1 ++ dktX28_isAllowed_2
def dkwX28_isAllowed_0 : List UInt8 := [4, 61, 3, 62, 29, 27, 162, 0, 93, 28, 153, 0, 89, 42, 180, 0, 179, 29, 122, 4, 126, 4]
abbrev dktX28_isAllowed_0 : List UInt8 := dkwX28_isAllowed_0 ++ dktX28_isAllowed_1
theorem dksX28_isAllowed_0 : cX28_isAllowed.data.toList.drop 0 = dktX28_isAllowed_0 := by decide +kernel
theorem dksX28_isAllowed_1 : cX28_isAllowed.data.toList.drop 22 = dktX28_isAllowed_1 := dk_seg dksX28_isAllowed_0 22 rfl rfl
theorem dksX28_isAllowed_2 : cX28_isAllowed.data.toList.drop 46 = dktX28_isAllowed_2 := dk_seg dksX28_isAllowed_1 24 rfl rfl
theorem dksX28_isAllowed_3 : cX28_isAllowed.data.toList.drop 69 = dktX28_isAllowed_3 := dk_seg dksX28_isAllowed_2 23 rfl rfl
theorem dksX28_isAllowed_4 : cX28_isAllowed.data.toList.drop 93 = dktX28_isAllowed_4 := dk_seg dksX28_isAllowed_3 24 rfl rfl
theorem dX28_isAllowed_0 : decode cX28_isAllowed 0 = .ok (.iconst 1, 1) := dk_4 (dk_at dksX28_isAllowed_0 0 rfl rfl)
theorem dX28_isAllowed_1 : decode cX28_isAllowed 1 = .ok (.istore_n 2, 1) := dk_61 (dk_at dksX28_isAllowed_0 1 rfl rfl)
theorem dX28_isAllowed_2 : decode cX28_isAllowed 2 = .ok (.iconst 0, 1) := dk_3 (dk_at dksX28_isAllowed_0 2 rfl rfl)
theorem dX28_isAllowed_3 : decode cX28_isAllowed 3 = .ok (.istore_n 3, 1) := dk_62 (dk_at dksX28_isAllowed_0 3 rfl rfl)
theorem dX28_isAllowed_4 : decode cX28_isAllowed 4 = .ok (.iload_n 3, 1) := dk_29 (dk_at dksX28_isAllowed_0 4 rfl rfl)
theorem dX28_isAllowed_5 : decode cX28_isAllowed 5 = .ok (.iload_n 1, 1) := dk_27 (dk_at dksX28_isAllowed_0 5 rfl rfl)
theorem dX28_isAllowed_6 : decode cX28_isAllowed 6 = .ok (.if_icmp .ge 93, 3) := dk_162 0 93 (dk_at dksX28_isAllowed_0 6 rfl rfl)
theorem dX28_isAllowed_9 : decode cX28_isAllowed 9 = .ok (.iload_n 2, 1) := dk_28 (dk_at dksX28_isAllowed_0 9 rfl rfl)
theorem dX28_isAllowed_10 : decode cX28_isAllowed 10 = .ok (.ifCond .eq 89, 3) := dk_153 0 89 (dk_at dksX28_isAllowed_0 10 rfl rfl)
theorem dX28_isAllowed_13 : decode cX28_isAllowed 13 = .ok (.aload_n 0, 1) := dk_42 (dk_at dksX28_isAllowed_0 13 rfl rfl)
theorem dX28_isAllowed_14 : decode cX28_isAllowed 14 = .ok (.getfield 179, 3) := dk_180 0 179 (dk_at dksX28_isAllowed_0 14 rfl rfl)
theorem dX28_isAllowed_17 : decode cX28_isAllowed 17 = .ok (.iload_n 3, 1) := dk_29 (dk_at dksX28_isAllowed_0 17 rfl rfl)
theorem dX28_isAllowed_18 : decode cX28_isAllowed 18 = .ok (.ishr, 1) := dk_122 (dk_at dksX28_isAllowed_0 18 rfl rfl)
theorem dX28_isAllowed_19 : decode cX28_isAllowed 19 = .ok (.iconst 1, 1) := dk_4 (dk_at dksX28_isAllowed_0 19 rfl rfl)
theorem dX28_isAllowed_20 : decode cX28_isAllowed 20 = .ok (.iand, 1) := dk_126 (dk_at dksX28_isAllowed_0 20 rfl rfl)
theorem dX28_isAllowed_21 : decode cX28_isAllowed 21 = .ok (.iconst 1, 1) := dk_4 (dk_at dksX28_isAllowed_0 21 rfl rfl)
theorem dX28_isAllowed_22 : decode cX28_isAllowed 22 = .ok (.if_icmp .ne 71, 3) := dk_160 0 71 (dk_at dksX28_isAllowed_1 0 rfl rfl)
theorem dX28_isAllowed_25 : decode cX28_isAllowed 25 = .ok (.aload_n 0, 1) := dk_42 (dk_at dksX28_isAllowed_1 3 rfl rfl)
theorem dX28_isAllowed_26 : decode cX28_isAllowed 26 = .ok (.getfield 9, 3) := dk_180 0 9 (dk_at dksX28_isAllowed_1 4 rfl rfl)
theorem dX28_isAllowed_29 : decode cX28_isAllowed 29 = .ok (.iload_n 1, 1) := dk_27 (dk_at dksX28_isAllowed_1 7 rfl rfl)
theorem dX28_isAllowed_30 : decode cX28_isAllowed 30 = .ok (.aaload, 1) := dk_50 (dk_at dksX28_isAllowed_1 8 rfl rfl)
theorem dX28_isAllowed_31 : decode cX28_isAllowed 31 = .ok (.getfield 94, 3) := dk_180 0 94 (dk_at dksX28_isAllowed_1 9 rfl rfl)
theorem dX28_isAllowed_34 : decode cX28_isAllowed 34 = .ok (.iload_n 3, 1) := dk_29 (dk_at dksX28_isAllowed_1 12 rfl rfl)
theorem dX28_isAllowed_35 : decode cX28_isAllowed 35 = .ok (.ishr, 1) := dk_122 (dk_at dksX28_isAllowed_1 13 rfl rfl)
theorem dX28_isAllowed_36 : decode cX28_isAllowed 36 = .ok (.iconst 1, 1) := dk_4 (dk_at dksX28_isAllowed_1 14 rfl rfl)
theorem dX28_isAllowed_37 : decode cX28_isAllowed 37 = .ok (.iand, 1) := dk_126 (dk_at dksX28_isAllowed_1 15 rfl rfl)
theorem dX28_isAllowed_38 : decode cX28_isAllowed 38 = .ok (.ifCond .eq 18, 3) := dk_153 0 18 (dk_at dksX28_isAllowed_1 16 rfl rfl)
theorem dX28_isAllowed_41 : decode cX28_isAllowed 41 = .ok (.aload_n 0, 1) := dk_42 (dk_at dksX28_isAllowed_1 19 rfl rfl)
theorem dX28_isAllowed_42 : decode cX28_isAllowed 42 = .ok (.getfield 51, 3) := dk_180 0 51 (dk_at dksX28_isAllowed_1 20 rfl rfl)
theorem dX28_isAllowed_45 : decode cX28_isAllowed 45 = .ok (.iload_n 3, 1) := dk_29 (dk_at dksX28_isAllowed_1 23 rfl rfl)
theorem dX28_isAllowed_46 : decode cX28_isAllowed 46 = .ok (.iaload, 1) := dk_46 (dk_at dksX28_isAllowed_2 0 rfl rfl)
theorem dX28_isAllowed_47 : decode cX28_isAllowed 47 = .ok (.aload_n 0, 1) := dk_42 (dk_at dksX28_isAllowed_2 1 rfl rfl)
theorem dX28_isAllowed_48 : decode cX28_isAllowed 48 = .ok (.getfield 51, 3) := dk_180 0 51 (dk_at dksX28_isAllowed_2 2 rfl rfl)
theorem dX28_isAllowed_51 : decode cX28_isAllowed 51 = .ok (.iload_n 1, 1) := dk_27 (dk_at dksX28_isAllowed_2 5 rfl rfl)
theorem dX28_isAllowed_52 : decode cX28_isAllowed 52 = .ok (.iaload, 1) := dk_46 (dk_at dksX28_isAllowed_2 6 rfl rfl)
theorem dX28_isAllowed_53 : decode cX28_isAllowed 53 = .ok (.if_icmp .gt 38, 3) := dk_163 0 38 (dk_at dksX28_isAllowed_2 7 rfl rfl)
theorem dX28_isAllowed_56 : decode cX28_isAllowed 56 = .ok (.aload_n 0, 1) := dk_42 (dk_at dksX28_isAllowed_2 10 rfl rfl)
theorem dX28_isAllowed_57 : decode cX28_isAllowed 57 = .ok (.getfield 9, 3) := dk_180 0 9 (dk_at dksX28_isAllowed_2 11 rfl rfl)
theorem dX28_isAllowed_60 : decode cX28_isAllowed 60 = .ok (.iload_n 3, 1) := dk_29 (dk_at dksX28_isAllowed_2 14 rfl rfl)
theorem dX28_isAllowed_61 : decode cX28_isAllowed 61 = .ok (.aaload, 1) := dk_50 (dk_at dksX28_isAllowed_2 15 rfl rfl)
theorem dX28_isAllowed_62 : decode cX28_isAllowed 62 = .ok (.getfield 94, 3) := dk_180 0 94 (dk_at dksX28_isAllowed_2 16 rfl rfl)
theorem dX28_isAllowed_65 : decode cX28_isAllowed 65 = .ok (.iload_n 1, 1) := dk_27 (dk_at dksX28_isAllowed_2 19 rfl rfl)
theorem dX28_isAllowed_66 : decode cX28_isAllowed 66 = .ok (.ishr, 1) := dk_122 (dk_at dksX28_isAllowed_2 20 rfl rfl)
theorem dX28_isAllowed_67 : decode cX28_isAllowed 67 = .ok (.iconst 1, 1) := dk_4 (dk_at dksX28_isAllowed_2 21 rfl rfl)
theorem dX28_isAllowed_68 : decode cX28_isAllowed 68 = .ok (.iand, 1) := dk_126 (dk_at dksX28_isAllowed_2 22 rfl rfl)
theorem dX28_isAllowed_69 : decode cX28_isAllowed 69 = .ok (.ifCond .eq 18, 3) := dk_153 0 18 (dk_at dksX28_isAllowed_3 0 rfl rfl)
theorem dX28_isAllowed_72 : decode cX28_isAllowed 72 = .ok (.aload_n 0, 1) := dk_42 (dk_at dksX28_isAllowed_3 3 rfl rfl)
theorem dX28_isAllowed_73 : decode cX28_isAllowed 73 = .ok (.getfield 51, 3) := dk_180 0 51 (dk_at dksX28_isAllowed_3 4 rfl rfl)
theorem dX28_isAllowed_76 : decode cX28_isAllowed 76 = .ok (.iload_n 1, 1) := dk_27 (dk_at dksX28_isAllowed_3 7 rfl rfl)
theorem dX28_isAllowed_77 : decode cX28_isAllowed 77 = .ok (.iaload, 1) := dk_46 (dk_at dksX28_isAllowed_3 8 rfl rfl)
theorem dX28_isAllowed_78 : decode cX28_isAllowed 78 = .ok (.aload_n 0, 1) := dk_42 (dk_at dksX28_isAllowed_3 9 rfl rfl)
theorem dX28_isAllowed_79 : decode cX28_isAllowed 79 = .ok (.getfield 51, 3) := dk_180 0 51 (dk_at dksX28_isAllowed_3 10 rfl rfl)
theorem dX28_isAllowed_82 : decode cX28_isAllowed 82 = .ok (.iload_n 3, 1) := dk_29 (dk_at dksX28_isAllowed_3 13 rfl rfl)
theorem dX28_isAllowed_83 : decode cX28_isAllowed 83 = .ok (.iaload, 1) := dk_46 (dk_at dksX28_isAllowed_3 14 rfl rfl)
theorem dX28_isAllowed_84 : decode cX28_isAllowed 84 = .ok (.if_icmp .gt 7, 3) := dk_163 0 7 (dk_at dksX28_isAllowed_3 15 rfl rfl)
theorem dX28_isAllowed_87 : decode cX28_isAllowed 87 = .ok (.iconst 1, 1) := dk_4 (dk_at dksX28_isAllowed_3 18 rfl rfl)
theorem dX28_isAllowed_88 : decode cX28_isAllowed 88 = .ok (.goto 4, 3) := dk_167 0 4 (dk_at dksX28_isAllowed_3 19 rfl rfl)
theorem dX28_isAllowed_91 : decode cX28_isAllowed 91 = .ok (.iconst 0, 1) := dk_3 (dk_at dksX28_isAllowed_3 22 rfl rfl)
theorem dX28_isAllowed_92 : decode cX28_isAllowed 92 = .ok (.istore_n 2, 1) := dk_61 (dk_at dksX28_isAllowed_3 23 rfl rfl)
theorem dX28_isAllowed_93 : decode cX28_isAllowed 93 = .ok (.iinc 3 1, 3) := dk_132 3 1 (dk_at dksX28_isAllowed_4 0 rfl rfl)
theorem dX28_isAllowed_96 : decode cX28_isAllowed 96 = .ok (.goto (-92), 3) := dk_167 255 164 (dk_at dksX28_isAllowed_4 3 rfl rfl)
theorem dX28_isAllowed_99 : decode cX28_isAllowed 99 = .ok (.iload_n 2, 1) := dk_28 (dk_at dksX28_isAllowed_4 6 rfl rfl)
theorem dX28_isAllowed_100 : decode cX28_isAllowed 100 = .ok (.ireturn, 1) := dk_172 (dk_at dksX28_isAllowed_4 7 rfl rfl)
abbrev cX28_longest : ByteArray := prog_2_method_39_code
def yX28_longest : MethodName := ⟨RX28, "longest", "(I)J"⟩
def dkwX28_longest_1 : List UInt8 := [132, 4, 1, 167, 255, 235, 32, 173]
abbrev dktX28_longest_1 : List UInt8 := dkwX28_longest_1 ++ []
def dkwX28_longest_0 : List UInt8 := [9, 65, 3, 54, 4, 21, 4, 27, 162, 0, 21, 32, 42, 180, 0, 54, 21, 4, 47, 184, 0, 150, 65]
abbrev dktX28_longest_0 : List UInt8 := dkwX28_longest_0 ++ dktX28_longest_1
theorem dksX28_longest_0 : cX28_longest.data.toList.drop 0 = dktX28_longest_0 := by decide +kernel
theorem dksX28_longest_1 : cX28_longest.data.toList.drop 23 = dktX28_longest_1 := dk_seg dksX28_longest_0 23 rfl rfl
theorem dX28_longest_0 : decode cX28_longest 0 = .ok (.lconst 0, 1) := dk_9 (dk_at dksX28_longest_0 0 rfl rfl)
theorem dX28_longest_1 : decode cX28_longest 1 = .ok (.lstore_n 2, 1) := dk_65 (dk_at dksX28_longest_0 1 rfl rfl)
theorem dX28_longest_2 : decode cX28_longest 2 = .ok (.iconst 0, 1) := dk_3 (dk_at dksX28_longest_0 2 rfl rfl)
theorem dX28_longest_3 : decode cX28_longest 3 = .ok (.istore 4, 2) := dk_54 4 (dk_at dksX28_longest_0 3 rfl rfl)
theorem dX28_longest_5 : decode cX28_longest 5 = .ok (.iload 4, 2) := dk_21 4 (dk_at dksX28_longest_0 5 rfl rfl)
theorem dX28_longest_7 : decode cX28_longest 7 = .ok (.iload_n 1, 1) := dk_27 (dk_at dksX28_longest_0 7 rfl rfl)
theorem dX28_longest_8 : decode cX28_longest 8 = .ok (.if_icmp .ge 21, 3) := dk_162 0 21 (dk_at dksX28_longest_0 8 rfl rfl)
theorem dX28_longest_11 : decode cX28_longest 11 = .ok (.lload_n 2, 1) := dk_32 (dk_at dksX28_longest_0 11 rfl rfl)
theorem dX28_longest_12 : decode cX28_longest 12 = .ok (.aload_n 0, 1) := dk_42 (dk_at dksX28_longest_0 12 rfl rfl)
theorem dX28_longest_13 : decode cX28_longest 13 = .ok (.getfield 54, 3) := dk_180 0 54 (dk_at dksX28_longest_0 13 rfl rfl)
theorem dX28_longest_16 : decode cX28_longest 16 = .ok (.iload 4, 2) := dk_21 4 (dk_at dksX28_longest_0 16 rfl rfl)
theorem dX28_longest_18 : decode cX28_longest 18 = .ok (.laload, 1) := dk_47 (dk_at dksX28_longest_0 18 rfl rfl)
theorem dX28_longest_19 : decode cX28_longest 19 = .ok (.invokestatic 150, 3) := dk_184 0 150 (dk_at dksX28_longest_0 19 rfl rfl)
theorem dX28_longest_22 : decode cX28_longest 22 = .ok (.lstore_n 2, 1) := dk_65 (dk_at dksX28_longest_0 22 rfl rfl)
theorem dX28_longest_23 : decode cX28_longest 23 = .ok (.iinc 4 1, 3) := dk_132 4 1 (dk_at dksX28_longest_1 0 rfl rfl)
theorem dX28_longest_26 : decode cX28_longest 26 = .ok (.goto (-21), 3) := dk_167 255 235 (dk_at dksX28_longest_1 3 rfl rfl)
theorem dX28_longest_29 : decode cX28_longest 29 = .ok (.lload_n 2, 1) := dk_32 (dk_at dksX28_longest_1 6 rfl rfl)
theorem dX28_longest_30 : decode cX28_longest 30 = .ok (.lreturn, 1) := dk_173 (dk_at dksX28_longest_1 7 rfl rfl)
abbrev cX28_station : ByteArray := prog_2_method_40_code
def yX28_station : MethodName := ⟨RX28, "station", "(I)I"⟩
def dkwX28_station_0 : List UInt8 := [27, 155, 0, 18, 27, 16, 10, 162, 0, 12, 42, 180, 0, 48, 27, 46, 167, 0, 4, 2, 172]
abbrev dktX28_station_0 : List UInt8 := dkwX28_station_0 ++ []
theorem dksX28_station_0 : cX28_station.data.toList.drop 0 = dktX28_station_0 := by decide +kernel
theorem dX28_station_0 : decode cX28_station 0 = .ok (.iload_n 1, 1) := dk_27 (dk_at dksX28_station_0 0 rfl rfl)
theorem dX28_station_1 : decode cX28_station 1 = .ok (.ifCond .lt 18, 3) := dk_155 0 18 (dk_at dksX28_station_0 1 rfl rfl)
theorem dX28_station_4 : decode cX28_station 4 = .ok (.iload_n 1, 1) := dk_27 (dk_at dksX28_station_0 4 rfl rfl)
theorem dX28_station_5 : decode cX28_station 5 = .ok (.bipush 10, 2) := dk_16 10 (dk_at dksX28_station_0 5 rfl rfl)
theorem dX28_station_7 : decode cX28_station 7 = .ok (.if_icmp .ge 12, 3) := dk_162 0 12 (dk_at dksX28_station_0 7 rfl rfl)
theorem dX28_station_10 : decode cX28_station 10 = .ok (.aload_n 0, 1) := dk_42 (dk_at dksX28_station_0 10 rfl rfl)
theorem dX28_station_11 : decode cX28_station 11 = .ok (.getfield 48, 3) := dk_180 0 48 (dk_at dksX28_station_0 11 rfl rfl)
theorem dX28_station_14 : decode cX28_station 14 = .ok (.iload_n 1, 1) := dk_27 (dk_at dksX28_station_0 14 rfl rfl)
theorem dX28_station_15 : decode cX28_station 15 = .ok (.iaload, 1) := dk_46 (dk_at dksX28_station_0 15 rfl rfl)
theorem dX28_station_16 : decode cX28_station 16 = .ok (.goto 4, 3) := dk_167 0 4 (dk_at dksX28_station_0 16 rfl rfl)
theorem dX28_station_19 : decode cX28_station 19 = .ok (.iconst (-1), 1) := dk_2 (dk_at dksX28_station_0 19 rfl rfl)
theorem dX28_station_20 : decode cX28_station 20 = .ok (.ireturn, 1) := dk_172 (dk_at dksX28_station_0 20 rfl rfl)
theorem q427 : (Jvm.Cond.initialized "WasteHouse$ApartCost") ∈ lw_all := lw_g (lw_at lw_m1 35 rfl) rfl
theorem q1526 : (Jvm.Cond.instantiable "WasteHouse$ApartCost" (22 : Nat)) ∈ lw_all := lw_g (lw_at lw_m5 174 rfl) rfl
theorem q1528 : (Jvm.Cond.instanceMethod ({ cls := "WasteHouse$ApartCost", name := "<init>", desc := "()V" } : Jvm.MethodName)) ∈ lw_all := lw_g (lw_at lw_m5 176 rfl) rfl
theorem q1529 : (Jvm.Cond.code ({ cls := "WasteHouse$ApartCost", name := "<init>", desc := "()V" } : Jvm.MethodName) prog_2_method_1_code (2 : Nat) (Option.none : Option Jvm.ClassFile.FieldType)) ∈ lw_all := lw_g (lw_at lw_m5 177 rfl) rfl
theorem q1530 : (Jvm.Cond.methodLink "WasteHouse$ApartCost" (1 : Nat) ({ cls := "java/lang/Object", name := "<init>", desc := "()V" } : Jvm.MethodName)) ∈ lw_all := lw_g (lw_at lw_m5 178 rfl) rfl
theorem q1531 : (Jvm.Cond.classLink "WasteHouse$ApartCost" (7 : Nat) "WasteHouse$ApartCost$Act") ∈ lw_all := lw_g (lw_at lw_m5 179 rfl) rfl
theorem q1533 : (Jvm.Cond.classLink "WasteHouse$ApartCost" (15 : Nat) "WasteHouse$ApartCost$Steps") ∈ lw_all := lw_g (lw_at lw_m5 181 rfl) rfl
theorem q1535 : (Jvm.Cond.methodLinkNest "WasteHouse$ApartCost" (17 : Nat) ({ cls := "WasteHouse$ApartCost$Steps", name := "<init>", desc := "()V" } : Jvm.MethodName) "WasteHouse") ∈ lw_tbl := lw_at lw_m5 183 rfl
theorem q1544 : (Jvm.Cond.methodLinkNest "WasteHouse$ApartCost" (57 : Nat) ({ cls := "WasteHouse$ApartCost$Act", name := "<init>", desc := "()V" } : Jvm.MethodName) "WasteHouse") ∈ lw_tbl := lw_at lw_m5 192 rfl
theorem q1548 : (Jvm.Cond.fieldLink "WasteHouse$ApartCost" (75 : Nat) "WasteHouse$ApartCost$Act" "frees" "I") ∈ lw_all := lw_g (lw_at lw_m5 196 rfl) rfl
theorem q1549 : (Jvm.Cond.fieldLink "WasteHouse$ApartCost" (78 : Nat) "WasteHouse$ApartCost$Act" "tool" "I") ∈ lw_all := lw_g (lw_at lw_m5 197 rfl) rfl
theorem q1550 : (Jvm.Cond.fieldLink "WasteHouse$ApartCost" (81 : Nat) "WasteHouse$ApartCost$Act" "side" "I") ∈ lw_all := lw_g (lw_at lw_m5 198 rfl) rfl
theorem q1551 : (Jvm.Cond.fieldLink "WasteHouse$ApartCost" (84 : Nat) "WasteHouse$ApartCost$Act" "cents" "I") ∈ lw_all := lw_g (lw_at lw_m5 199 rfl) rfl
theorem q1552 : (Jvm.Cond.fieldLink "WasteHouse$ApartCost" (112 : Nat) "WasteHouse$ApartCost$Act" "breaks" "Z") ∈ lw_all := lw_g (lw_at lw_m5 200 rfl) rfl
theorem q1553 : (Jvm.Cond.fieldLink "WasteHouse$ApartCost" (94 : Nat) "WasteHouse$ApartCost$Act" "needs" "I") ∈ lw_all := lw_g (lw_at lw_m5 201 rfl) rfl
theorem q1567 : (Jvm.Cond.fieldLink "WasteHouse$ApartCost" (9 : Nat) "WasteHouse$ApartCost" "acts" "[LWasteHouse$ApartCost$Act;") ∈ lw_all := lw_g (lw_at lw_m5 215 rfl) rfl
theorem q1568 : (Jvm.Cond.fieldLink "WasteHouse$ApartCost" (58 : Nat) "WasteHouse$ApartCost" "count" "I") ∈ lw_all := lw_g (lw_at lw_m5 216 rfl) rfl
theorem q1569 : (Jvm.Cond.fieldLink "WasteHouse$ApartCost" (18 : Nat) "WasteHouse$ApartCost" "changes" "LWasteHouse$ApartCost$Steps;") ∈ lw_all := lw_g (lw_at lw_m5 217 rfl) rfl
theorem q1570 : (Jvm.Cond.fieldLink "WasteHouse$ApartCost" (22 : Nat) "WasteHouse$ApartCost" "turns" "LWasteHouse$ApartCost$Steps;") ∈ lw_all := lw_g (lw_at lw_m5 218 rfl) rfl
theorem q1571 : (Jvm.Cond.fieldLink "WasteHouse$ApartCost" (25 : Nat) "WasteHouse$ApartCost" "worths" "[I") ∈ lw_all := lw_g (lw_at lw_m5 219 rfl) rfl
theorem q1572 : (Jvm.Cond.fieldLink "WasteHouse$ApartCost" (29 : Nat) "WasteHouse$ApartCost" "chances" "[I") ∈ lw_all := lw_g (lw_at lw_m5 220 rfl) rfl
theorem q1573 : (Jvm.Cond.fieldLink "WasteHouse$ApartCost" (32 : Nat) "WasteHouse$ApartCost" "restSets" "[I") ∈ lw_all := lw_g (lw_at lw_m5 221 rfl) rfl
theorem q1574 : (Jvm.Cond.fieldLink "WasteHouse$ApartCost" (35 : Nat) "WasteHouse$ApartCost" "restWorths" "[I") ∈ lw_all := lw_g (lw_at lw_m5 222 rfl) rfl
theorem q1575 : (Jvm.Cond.fieldLink "WasteHouse$ApartCost" (103 : Nat) "WasteHouse$ApartCost" "rests" "I") ∈ lw_all := lw_g (lw_at lw_m5 223 rfl) rfl
theorem q1576 : (Jvm.Cond.fieldLink "WasteHouse$ApartCost" (38 : Nat) "WasteHouse$ApartCost" "best" "[J") ∈ lw_all := lw_g (lw_at lw_m5 224 rfl) rfl
theorem q1577 : (Jvm.Cond.fieldLink "WasteHouse$ApartCost" (188 : Nat) "WasteHouse$ApartCost" "hasFound" "Z") ∈ lw_all := lw_g (lw_at lw_m5 225 rfl) rfl
theorem q1578 : (Jvm.Cond.fieldLink "WasteHouse$ApartCost" (87 : Nat) "WasteHouse$ApartCost" "isProved" "Z") ∈ lw_all := lw_g (lw_at lw_m5 226 rfl) rfl
theorem q1579 : (Jvm.Cond.fieldLink "WasteHouse$ApartCost" (42 : Nat) "WasteHouse$ApartCost" "row" "[I") ∈ lw_all := lw_g (lw_at lw_m5 227 rfl) rfl
theorem q1580 : (Jvm.Cond.fieldLink "WasteHouse$ApartCost" (176 : Nat) "WasteHouse$ApartCost" "length" "I") ∈ lw_all := lw_g (lw_at lw_m5 228 rfl) rfl
theorem q1581 : (Jvm.Cond.fieldLink "WasteHouse$ApartCost" (179 : Nat) "WasteHouse$ApartCost" "rowSet" "I") ∈ lw_all := lw_g (lw_at lw_m5 229 rfl) rfl
theorem q1582 : (Jvm.Cond.fieldLink "WasteHouse$ApartCost" (172 : Nat) "WasteHouse$ApartCost" "foundGain" "J") ∈ lw_all := lw_g (lw_at lw_m5 230 rfl) rfl
theorem q1583 : (Jvm.Cond.fieldLink "WasteHouse$ApartCost" (45 : Nat) "WasteHouse$ApartCost" "foundParts" "[J") ∈ lw_all := lw_g (lw_at lw_m5 231 rfl) rfl
theorem q1584 : (Jvm.Cond.fieldLink "WasteHouse$ApartCost" (185 : Nat) "WasteHouse$ApartCost" "foundRest" "I") ∈ lw_all := lw_g (lw_at lw_m5 232 rfl) rfl
theorem q1585 : (Jvm.Cond.fieldLink "WasteHouse$ApartCost" (182 : Nat) "WasteHouse$ApartCost" "foundCount" "I") ∈ lw_all := lw_g (lw_at lw_m5 233 rfl) rfl
theorem q1586 : (Jvm.Cond.fieldLink "WasteHouse$ApartCost" (48 : Nat) "WasteHouse$ApartCost" "shared" "[I") ∈ lw_all := lw_g (lw_at lw_m5 234 rfl) rfl
theorem q1587 : (Jvm.Cond.fieldLink "WasteHouse$ApartCost" (51 : Nat) "WasteHouse$ApartCost" "trial" "[I") ∈ lw_all := lw_g (lw_at lw_m5 235 rfl) rfl
theorem q1588 : (Jvm.Cond.fieldLink "WasteHouse$ApartCost" (54 : Nat) "WasteHouse$ApartCost" "sums" "[J") ∈ lw_all := lw_g (lw_at lw_m5 236 rfl) rfl
theorem q1589 : (Jvm.Cond.laysFinal "WasteHouse$ApartCost" "WasteHouse$ApartCost" "acts" "[LWasteHouse$ApartCost$Act;") ∈ lw_all := lw_g (lw_at lw_m5 237 rfl) rfl
theorem q1590 : (Jvm.Cond.soleField "WasteHouse$ApartCost" "acts") ∈ lw_all := lw_g (lw_at lw_m5 238 rfl) rfl
theorem q1591 : (Jvm.Cond.lays "WasteHouse$ApartCost" "WasteHouse$ApartCost" "count" "I") ∈ lw_all := lw_g (lw_at lw_m5 239 rfl) rfl
theorem q1592 : (Jvm.Cond.soleField "WasteHouse$ApartCost" "count") ∈ lw_all := lw_g (lw_at lw_m6 0 rfl) rfl
theorem q1593 : (Jvm.Cond.laysFinal "WasteHouse$ApartCost" "WasteHouse$ApartCost" "changes" "LWasteHouse$ApartCost$Steps;") ∈ lw_all := lw_g (lw_at lw_m6 1 rfl) rfl
theorem q1594 : (Jvm.Cond.soleField "WasteHouse$ApartCost" "changes") ∈ lw_all := lw_g (lw_at lw_m6 2 rfl) rfl
theorem q1595 : (Jvm.Cond.laysFinal "WasteHouse$ApartCost" "WasteHouse$ApartCost" "turns" "LWasteHouse$ApartCost$Steps;") ∈ lw_all := lw_g (lw_at lw_m6 3 rfl) rfl
theorem q1596 : (Jvm.Cond.soleField "WasteHouse$ApartCost" "turns") ∈ lw_all := lw_g (lw_at lw_m6 4 rfl) rfl
theorem q1597 : (Jvm.Cond.laysFinal "WasteHouse$ApartCost" "WasteHouse$ApartCost" "worths" "[I") ∈ lw_all := lw_g (lw_at lw_m6 5 rfl) rfl
theorem q1598 : (Jvm.Cond.soleField "WasteHouse$ApartCost" "worths") ∈ lw_all := lw_g (lw_at lw_m6 6 rfl) rfl
theorem q1599 : (Jvm.Cond.laysFinal "WasteHouse$ApartCost" "WasteHouse$ApartCost" "chances" "[I") ∈ lw_all := lw_g (lw_at lw_m6 7 rfl) rfl
theorem q1600 : (Jvm.Cond.soleField "WasteHouse$ApartCost" "chances") ∈ lw_all := lw_g (lw_at lw_m6 8 rfl) rfl
theorem q1601 : (Jvm.Cond.laysFinal "WasteHouse$ApartCost" "WasteHouse$ApartCost" "restSets" "[I") ∈ lw_all := lw_g (lw_at lw_m6 9 rfl) rfl
theorem q1602 : (Jvm.Cond.soleField "WasteHouse$ApartCost" "restSets") ∈ lw_all := lw_g (lw_at lw_m6 10 rfl) rfl
theorem q1603 : (Jvm.Cond.laysFinal "WasteHouse$ApartCost" "WasteHouse$ApartCost" "restWorths" "[I") ∈ lw_all := lw_g (lw_at lw_m6 11 rfl) rfl
theorem q1604 : (Jvm.Cond.soleField "WasteHouse$ApartCost" "restWorths") ∈ lw_all := lw_g (lw_at lw_m6 12 rfl) rfl
theorem q1605 : (Jvm.Cond.lays "WasteHouse$ApartCost" "WasteHouse$ApartCost" "rests" "I") ∈ lw_all := lw_g (lw_at lw_m6 13 rfl) rfl
theorem q1606 : (Jvm.Cond.soleField "WasteHouse$ApartCost" "rests") ∈ lw_all := lw_g (lw_at lw_m6 14 rfl) rfl
theorem q1607 : (Jvm.Cond.laysFinal "WasteHouse$ApartCost" "WasteHouse$ApartCost" "best" "[J") ∈ lw_all := lw_g (lw_at lw_m6 15 rfl) rfl
theorem q1608 : (Jvm.Cond.soleField "WasteHouse$ApartCost" "best") ∈ lw_all := lw_g (lw_at lw_m6 16 rfl) rfl
theorem q1609 : (Jvm.Cond.lays "WasteHouse$ApartCost" "WasteHouse$ApartCost" "hasFound" "Z") ∈ lw_all := lw_g (lw_at lw_m6 17 rfl) rfl
theorem q1610 : (Jvm.Cond.soleField "WasteHouse$ApartCost" "hasFound") ∈ lw_all := lw_g (lw_at lw_m6 18 rfl) rfl
theorem q1611 : (Jvm.Cond.lays "WasteHouse$ApartCost" "WasteHouse$ApartCost" "isProved" "Z") ∈ lw_all := lw_g (lw_at lw_m6 19 rfl) rfl
theorem q1612 : (Jvm.Cond.soleField "WasteHouse$ApartCost" "isProved") ∈ lw_all := lw_g (lw_at lw_m6 20 rfl) rfl
theorem q1613 : (Jvm.Cond.laysFinal "WasteHouse$ApartCost" "WasteHouse$ApartCost" "row" "[I") ∈ lw_all := lw_g (lw_at lw_m6 21 rfl) rfl
theorem q1614 : (Jvm.Cond.soleField "WasteHouse$ApartCost" "row") ∈ lw_all := lw_g (lw_at lw_m6 22 rfl) rfl
theorem q1615 : (Jvm.Cond.lays "WasteHouse$ApartCost" "WasteHouse$ApartCost" "length" "I") ∈ lw_all := lw_g (lw_at lw_m6 23 rfl) rfl
theorem q1616 : (Jvm.Cond.soleField "WasteHouse$ApartCost" "length") ∈ lw_all := lw_g (lw_at lw_m6 24 rfl) rfl
theorem q1617 : (Jvm.Cond.lays "WasteHouse$ApartCost" "WasteHouse$ApartCost" "rowSet" "I") ∈ lw_all := lw_g (lw_at lw_m6 25 rfl) rfl
theorem q1618 : (Jvm.Cond.soleField "WasteHouse$ApartCost" "rowSet") ∈ lw_all := lw_g (lw_at lw_m6 26 rfl) rfl
theorem q1619 : (Jvm.Cond.lays "WasteHouse$ApartCost" "WasteHouse$ApartCost" "foundGain" "J") ∈ lw_all := lw_g (lw_at lw_m6 27 rfl) rfl
theorem q1620 : (Jvm.Cond.soleField "WasteHouse$ApartCost" "foundGain") ∈ lw_all := lw_g (lw_at lw_m6 28 rfl) rfl
theorem q1621 : (Jvm.Cond.laysFinal "WasteHouse$ApartCost" "WasteHouse$ApartCost" "foundParts" "[J") ∈ lw_all := lw_g (lw_at lw_m6 29 rfl) rfl
theorem q1622 : (Jvm.Cond.soleField "WasteHouse$ApartCost" "foundParts") ∈ lw_all := lw_g (lw_at lw_m6 30 rfl) rfl
theorem q1623 : (Jvm.Cond.lays "WasteHouse$ApartCost" "WasteHouse$ApartCost" "foundRest" "I") ∈ lw_all := lw_g (lw_at lw_m6 31 rfl) rfl
theorem q1624 : (Jvm.Cond.soleField "WasteHouse$ApartCost" "foundRest") ∈ lw_all := lw_g (lw_at lw_m6 32 rfl) rfl
theorem q1625 : (Jvm.Cond.lays "WasteHouse$ApartCost" "WasteHouse$ApartCost" "foundCount" "I") ∈ lw_all := lw_g (lw_at lw_m6 33 rfl) rfl
theorem q1626 : (Jvm.Cond.soleField "WasteHouse$ApartCost" "foundCount") ∈ lw_all := lw_g (lw_at lw_m6 34 rfl) rfl
theorem q1627 : (Jvm.Cond.laysFinal "WasteHouse$ApartCost" "WasteHouse$ApartCost" "shared" "[I") ∈ lw_all := lw_g (lw_at lw_m6 35 rfl) rfl
theorem q1628 : (Jvm.Cond.soleField "WasteHouse$ApartCost" "shared") ∈ lw_all := lw_g (lw_at lw_m6 36 rfl) rfl
theorem q1629 : (Jvm.Cond.laysFinal "WasteHouse$ApartCost" "WasteHouse$ApartCost" "trial" "[I") ∈ lw_all := lw_g (lw_at lw_m6 37 rfl) rfl
theorem q1630 : (Jvm.Cond.soleField "WasteHouse$ApartCost" "trial") ∈ lw_all := lw_g (lw_at lw_m6 38 rfl) rfl
theorem q1631 : (Jvm.Cond.laysFinal "WasteHouse$ApartCost" "WasteHouse$ApartCost" "sums" "[J") ∈ lw_all := lw_g (lw_at lw_m6 39 rfl) rfl
theorem q1632 : (Jvm.Cond.soleField "WasteHouse$ApartCost" "sums") ∈ lw_all := lw_g (lw_at lw_m6 40 rfl) rfl
theorem q1633 : (Jvm.Cond.superclass "WasteHouse$ApartCost" "java/lang/Object") ∈ lw_all := lw_g (lw_at lw_m6 41 rfl) rfl
theorem q1973 : (Jvm.Cond.selects "WasteHouse$ApartCost" ({ cls := "java/lang/Object", name := "getClass", desc := "()Ljava/lang/Class;" } : Jvm.MethodName) ({ cls := "java/lang/Object", name := "getClass", desc := "()Ljava/lang/Class;" } : Jvm.MethodName)) ∈ lw_all := lw_g (lw_at lw_m7 141 rfl) rfl
theorem q3081 : (Jvm.Cond.selects "WasteHouse$ApartCost" ({ cls := "java/lang/Object", name := "equals", desc := "(Ljava/lang/Object;)Z" } : Jvm.MethodName) ({ cls := "java/lang/Object", name := "equals", desc := "(Ljava/lang/Object;)Z" } : Jvm.MethodName)) ∈ lw_all := lw_g (lw_at lw_m12 49 rfl) rfl
theorem q3266 : (Jvm.Cond.instanceMethod ({ cls := "WasteHouse$ApartCost", name := "act", desc := "(IIIJ)I" } : Jvm.MethodName)) ∈ lw_all := lw_g (lw_at lw_m12 234 rfl) rfl
theorem q3267 : (Jvm.Cond.selects "WasteHouse$ApartCost" ({ cls := "WasteHouse$ApartCost", name := "act", desc := "(IIIJ)I" } : Jvm.MethodName) ({ cls := "WasteHouse$ApartCost", name := "act", desc := "(IIIJ)I" } : Jvm.MethodName)) ∈ lw_all := lw_g (lw_at lw_m12 235 rfl) rfl
theorem q3268 : (Jvm.Cond.code ({ cls := "WasteHouse$ApartCost", name := "act", desc := "(IIIJ)I" } : Jvm.MethodName) prog_2_method_5_code (7 : Nat) (Option.some Jvm.ClassFile.FieldType.int)) ∈ lw_all := lw_g (lw_at lw_m12 236 rfl) rfl
theorem q3269 : (Jvm.Cond.methodLink "WasteHouse$ApartCost" (62 : Nat) ({ cls := "WasteHouse$ApartCost", name := "isPart", desc := "(I)Z" } : Jvm.MethodName)) ∈ lw_all := lw_g (lw_at lw_m12 237 rfl) rfl
theorem q3270 : (Jvm.Cond.static ({ cls := "WasteHouse$ApartCost", name := "isPart", desc := "(I)Z" } : Jvm.MethodName)) ∈ lw_all := lw_g (lw_at lw_m12 238 rfl) rfl
theorem q3271 : (Jvm.Cond.code ({ cls := "WasteHouse$ApartCost", name := "isPart", desc := "(I)Z" } : Jvm.MethodName) prog_2_method_3_code (1 : Nat) (Option.some Jvm.ClassFile.FieldType.boolean)) ∈ lw_all := lw_g (lw_at lw_m12 239 rfl) rfl
theorem q3272 : (Jvm.Cond.methodLink "WasteHouse$ApartCost" (66 : Nat) ({ cls := "WasteHouse$ApartCost$Steps", name := "isWay", desc := "(I)Z" } : Jvm.MethodName)) ∈ lw_all := lw_g (lw_at lw_m13 0 rfl) rfl
theorem q3275 : (Jvm.Cond.constantLong "WasteHouse$ApartCost" (69 : Nat) (1000000 : Int64)) ∈ lw_all := lw_g (lw_at lw_m13 3 rfl) rfl
theorem q3276 : (Jvm.Cond.methodLink "WasteHouse$ApartCost" (71 : Nat) ({ cls := "WasteHouse$ApartCost", name := "isIn", desc := "(JJJ)Z" } : Jvm.MethodName)) ∈ lw_all := lw_g (lw_at lw_m13 4 rfl) rfl
theorem q3277 : (Jvm.Cond.static ({ cls := "WasteHouse$ApartCost", name := "isIn", desc := "(JJJ)Z" } : Jvm.MethodName)) ∈ lw_all := lw_g (lw_at lw_m13 5 rfl) rfl
theorem q3278 : (Jvm.Cond.code ({ cls := "WasteHouse$ApartCost", name := "isIn", desc := "(JJJ)Z" } : Jvm.MethodName) prog_2_method_4_code (6 : Nat) (Option.some Jvm.ClassFile.FieldType.boolean)) ∈ lw_all := lw_g (lw_at lw_m13 6 rfl) rfl
theorem q3280 : (Jvm.Cond.instanceMethod ({ cls := "WasteHouse$ApartCost", name := "before", desc := "(II)Z" } : Jvm.MethodName)) ∈ lw_all := lw_g (lw_at lw_m13 8 rfl) rfl
theorem q3281 : (Jvm.Cond.selects "WasteHouse$ApartCost" ({ cls := "WasteHouse$ApartCost", name := "before", desc := "(II)Z" } : Jvm.MethodName) ({ cls := "WasteHouse$ApartCost", name := "before", desc := "(II)Z" } : Jvm.MethodName)) ∈ lw_all := lw_g (lw_at lw_m13 9 rfl) rfl
theorem q3282 : (Jvm.Cond.code ({ cls := "WasteHouse$ApartCost", name := "before", desc := "(II)Z" } : Jvm.MethodName) prog_2_method_6_code (5 : Nat) (Option.some Jvm.ClassFile.FieldType.boolean)) ∈ lw_all := lw_g (lw_at lw_m13 10 rfl) rfl
theorem q3283 : (Jvm.Cond.methodLink "WasteHouse$ApartCost" (91 : Nat) ({ cls := "WasteHouse$ApartCost", name := "isAct", desc := "(I)Z" } : Jvm.MethodName)) ∈ lw_all := lw_g (lw_at lw_m13 11 rfl) rfl
theorem q3284 : (Jvm.Cond.privateMethod ({ cls := "WasteHouse$ApartCost", name := "isAct", desc := "(I)Z" } : Jvm.MethodName)) ∈ lw_tbl := lw_at lw_m13 12 rfl
theorem q3285 : (Jvm.Cond.instanceMethod ({ cls := "WasteHouse$ApartCost", name := "isAct", desc := "(I)Z" } : Jvm.MethodName)) ∈ lw_all := lw_g (lw_at lw_m13 13 rfl) rfl
theorem q3286 : (Jvm.Cond.code ({ cls := "WasteHouse$ApartCost", name := "isAct", desc := "(I)Z" } : Jvm.MethodName) prog_2_method_2_code (2 : Nat) (Option.some Jvm.ClassFile.FieldType.boolean)) ∈ lw_all := lw_g (lw_at lw_m13 14 rfl) rfl
theorem q3292 : (Jvm.Cond.instanceMethod ({ cls := "WasteHouse$ApartCost", name := "change", desc := "(IIJ)Z" } : Jvm.MethodName)) ∈ lw_all := lw_g (lw_at lw_m13 20 rfl) rfl
theorem q3293 : (Jvm.Cond.selects "WasteHouse$ApartCost" ({ cls := "WasteHouse$ApartCost", name := "change", desc := "(IIJ)Z" } : Jvm.MethodName) ({ cls := "WasteHouse$ApartCost", name := "change", desc := "(IIJ)Z" } : Jvm.MethodName)) ∈ lw_all := lw_g (lw_at lw_m13 21 rfl) rfl
theorem q3294 : (Jvm.Cond.code ({ cls := "WasteHouse$ApartCost", name := "change", desc := "(IIJ)Z" } : Jvm.MethodName) prog_2_method_7_code (6 : Nat) (Option.some Jvm.ClassFile.FieldType.boolean)) ∈ lw_all := lw_g (lw_at lw_m13 22 rfl) rfl
theorem q3295 : (Jvm.Cond.methodLink "WasteHouse$ApartCost" (97 : Nat) ({ cls := "WasteHouse$ApartCost$Steps", name := "tell", desc := "(IIJ)Z" } : Jvm.MethodName)) ∈ lw_all := lw_g (lw_at lw_m13 23 rfl) rfl
theorem q3302 : (Jvm.Cond.instanceMethod ({ cls := "WasteHouse$ApartCost", name := "turn", desc := "(IIJ)Z" } : Jvm.MethodName)) ∈ lw_all := lw_g (lw_at lw_m13 30 rfl) rfl
theorem q3303 : (Jvm.Cond.selects "WasteHouse$ApartCost" ({ cls := "WasteHouse$ApartCost", name := "turn", desc := "(IIJ)Z" } : Jvm.MethodName) ({ cls := "WasteHouse$ApartCost", name := "turn", desc := "(IIJ)Z" } : Jvm.MethodName)) ∈ lw_all := lw_g (lw_at lw_m13 31 rfl) rfl
theorem q3304 : (Jvm.Cond.code ({ cls := "WasteHouse$ApartCost", name := "turn", desc := "(IIJ)Z" } : Jvm.MethodName) prog_2_method_8_code (6 : Nat) (Option.some Jvm.ClassFile.FieldType.boolean)) ∈ lw_all := lw_g (lw_at lw_m13 32 rfl) rfl
theorem q3306 : (Jvm.Cond.instanceMethod ({ cls := "WasteHouse$ApartCost", name := "worth", desc := "(IJ)Z" } : Jvm.MethodName)) ∈ lw_all := lw_g (lw_at lw_m13 34 rfl) rfl
theorem q3307 : (Jvm.Cond.selects "WasteHouse$ApartCost" ({ cls := "WasteHouse$ApartCost", name := "worth", desc := "(IJ)Z" } : Jvm.MethodName) ({ cls := "WasteHouse$ApartCost", name := "worth", desc := "(IJ)Z" } : Jvm.MethodName)) ∈ lw_all := lw_g (lw_at lw_m13 35 rfl) rfl
theorem q3308 : (Jvm.Cond.code ({ cls := "WasteHouse$ApartCost", name := "worth", desc := "(IJ)Z" } : Jvm.MethodName) prog_2_method_9_code (4 : Nat) (Option.some Jvm.ClassFile.FieldType.boolean)) ∈ lw_all := lw_g (lw_at lw_m13 36 rfl) rfl
theorem q3309 : (Jvm.Cond.constantLong "WasteHouse$ApartCost" (101 : Nat) (-1000000 : Int64)) ∈ lw_all := lw_g (lw_at lw_m13 37 rfl) rfl
theorem q3311 : (Jvm.Cond.instanceMethod ({ cls := "WasteHouse$ApartCost", name := "rest", desc := "(JJ)Z" } : Jvm.MethodName)) ∈ lw_all := lw_g (lw_at lw_m13 39 rfl) rfl
theorem q3312 : (Jvm.Cond.selects "WasteHouse$ApartCost" ({ cls := "WasteHouse$ApartCost", name := "rest", desc := "(JJ)Z" } : Jvm.MethodName) ({ cls := "WasteHouse$ApartCost", name := "rest", desc := "(JJ)Z" } : Jvm.MethodName)) ∈ lw_all := lw_g (lw_at lw_m13 40 rfl) rfl
theorem q3313 : (Jvm.Cond.code ({ cls := "WasteHouse$ApartCost", name := "rest", desc := "(JJ)Z" } : Jvm.MethodName) prog_2_method_11_code (6 : Nat) (Option.some Jvm.ClassFile.FieldType.boolean)) ∈ lw_all := lw_g (lw_at lw_m13 41 rfl) rfl
theorem q3314 : (Jvm.Cond.constantLong "WasteHouse$ApartCost" (106 : Nat) (4095 : Int64)) ∈ lw_all := lw_g (lw_at lw_m13 42 rfl) rfl
theorem q3315 : (Jvm.Cond.methodLink "WasteHouse$ApartCost" (108 : Nat) ({ cls := "WasteHouse$ApartCost", name := "restOf", desc := "(I)I" } : Jvm.MethodName)) ∈ lw_all := lw_g (lw_at lw_m13 43 rfl) rfl
theorem q3316 : (Jvm.Cond.privateMethod ({ cls := "WasteHouse$ApartCost", name := "restOf", desc := "(I)I" } : Jvm.MethodName)) ∈ lw_tbl := lw_at lw_m13 44 rfl
theorem q3317 : (Jvm.Cond.instanceMethod ({ cls := "WasteHouse$ApartCost", name := "restOf", desc := "(I)I" } : Jvm.MethodName)) ∈ lw_all := lw_g (lw_at lw_m13 45 rfl) rfl
theorem q3318 : (Jvm.Cond.code ({ cls := "WasteHouse$ApartCost", name := "restOf", desc := "(I)I" } : Jvm.MethodName) prog_2_method_10_code (3 : Nat) (Option.some Jvm.ClassFile.FieldType.int)) ∈ lw_all := lw_g (lw_at lw_m13 46 rfl) rfl
theorem q3320 : (Jvm.Cond.instanceMethod ({ cls := "WasteHouse$ApartCost", name := "breaks", desc := "(I)Z" } : Jvm.MethodName)) ∈ lw_all := lw_g (lw_at lw_m13 48 rfl) rfl
theorem q3321 : (Jvm.Cond.selects "WasteHouse$ApartCost" ({ cls := "WasteHouse$ApartCost", name := "breaks", desc := "(I)Z" } : Jvm.MethodName) ({ cls := "WasteHouse$ApartCost", name := "breaks", desc := "(I)Z" } : Jvm.MethodName)) ∈ lw_all := lw_g (lw_at lw_m13 49 rfl) rfl
theorem q3322 : (Jvm.Cond.code ({ cls := "WasteHouse$ApartCost", name := "breaks", desc := "(I)Z" } : Jvm.MethodName) prog_2_method_12_code (2 : Nat) (Option.some Jvm.ClassFile.FieldType.boolean)) ∈ lw_all := lw_g (lw_at lw_m13 50 rfl) rfl
theorem q3324 : (Jvm.Cond.instanceMethod ({ cls := "WasteHouse$ApartCost", name := "sure", desc := "(IJJ)Z" } : Jvm.MethodName)) ∈ lw_all := lw_g (lw_at lw_m13 52 rfl) rfl
theorem q3325 : (Jvm.Cond.selects "WasteHouse$ApartCost" ({ cls := "WasteHouse$ApartCost", name := "sure", desc := "(IJJ)Z" } : Jvm.MethodName) ({ cls := "WasteHouse$ApartCost", name := "sure", desc := "(IJJ)Z" } : Jvm.MethodName)) ∈ lw_all := lw_g (lw_at lw_m13 53 rfl) rfl
theorem q3326 : (Jvm.Cond.code ({ cls := "WasteHouse$ApartCost", name := "sure", desc := "(IJJ)Z" } : Jvm.MethodName) prog_2_method_13_code (6 : Nat) (Option.some Jvm.ClassFile.FieldType.boolean)) ∈ lw_all := lw_g (lw_at lw_m13 54 rfl) rfl
theorem q3327 : (Jvm.Cond.constantLong "WasteHouse$ApartCost" (115 : Nat) (12 : Int64)) ∈ lw_all := lw_g (lw_at lw_m13 55 rfl) rfl
theorem q3328 : (Jvm.Cond.constantLong "WasteHouse$ApartCost" (117 : Nat) (27720 : Int64)) ∈ lw_all := lw_g (lw_at lw_m13 56 rfl) rfl
theorem q3330 : (Jvm.Cond.instanceMethod ({ cls := "WasteHouse$ApartCost", name := "states", desc := "()J" } : Jvm.MethodName)) ∈ lw_all := lw_g (lw_at lw_m13 58 rfl) rfl
theorem q3331 : (Jvm.Cond.selects "WasteHouse$ApartCost" ({ cls := "WasteHouse$ApartCost", name := "states", desc := "()J" } : Jvm.MethodName) ({ cls := "WasteHouse$ApartCost", name := "states", desc := "()J" } : Jvm.MethodName)) ∈ lw_all := lw_g (lw_at lw_m13 59 rfl) rfl
theorem q3332 : (Jvm.Cond.code ({ cls := "WasteHouse$ApartCost", name := "states", desc := "()J" } : Jvm.MethodName) prog_2_method_23_code (5 : Nat) (Option.some Jvm.ClassFile.FieldType.long)) ∈ lw_all := lw_g (lw_at lw_m13 60 rfl) rfl
theorem q3333 : (Jvm.Cond.methodLink "WasteHouse$ApartCost" (133 : Nat) ({ cls := "WasteHouse$ApartCost", name := "isClosed", desc := "(I)Z" } : Jvm.MethodName)) ∈ lw_all := lw_g (lw_at lw_m13 61 rfl) rfl
theorem q3334 : (Jvm.Cond.privateMethod ({ cls := "WasteHouse$ApartCost", name := "isClosed", desc := "(I)Z" } : Jvm.MethodName)) ∈ lw_tbl := lw_at lw_m13 62 rfl
theorem q3335 : (Jvm.Cond.instanceMethod ({ cls := "WasteHouse$ApartCost", name := "isClosed", desc := "(I)Z" } : Jvm.MethodName)) ∈ lw_all := lw_g (lw_at lw_m13 63 rfl) rfl
theorem q3336 : (Jvm.Cond.code ({ cls := "WasteHouse$ApartCost", name := "isClosed", desc := "(I)Z" } : Jvm.MethodName) prog_2_method_21_code (4 : Nat) (Option.some Jvm.ClassFile.FieldType.boolean)) ∈ lw_all := lw_g (lw_at lw_m13 64 rfl) rfl
theorem q3337 : (Jvm.Cond.methodLink "WasteHouse$ApartCost" (136 : Nat) ({ cls := "WasteHouse$ApartCost", name := "isLast", desc := "(II)Z" } : Jvm.MethodName)) ∈ lw_all := lw_g (lw_at lw_m13 65 rfl) rfl
theorem q3338 : (Jvm.Cond.privateMethod ({ cls := "WasteHouse$ApartCost", name := "isLast", desc := "(II)Z" } : Jvm.MethodName)) ∈ lw_tbl := lw_at lw_m13 66 rfl
theorem q3339 : (Jvm.Cond.instanceMethod ({ cls := "WasteHouse$ApartCost", name := "isLast", desc := "(II)Z" } : Jvm.MethodName)) ∈ lw_all := lw_g (lw_at lw_m13 67 rfl) rfl
theorem q3340 : (Jvm.Cond.code ({ cls := "WasteHouse$ApartCost", name := "isLast", desc := "(II)Z" } : Jvm.MethodName) prog_2_method_22_code (3 : Nat) (Option.some Jvm.ClassFile.FieldType.boolean)) ∈ lw_all := lw_g (lw_at lw_m13 68 rfl) rfl
theorem q3342 : (Jvm.Cond.instanceMethod ({ cls := "WasteHouse$ApartCost", name := "run", desc := "(J)I" } : Jvm.MethodName)) ∈ lw_all := lw_g (lw_at lw_m13 70 rfl) rfl
theorem q3343 : (Jvm.Cond.selects "WasteHouse$ApartCost" ({ cls := "WasteHouse$ApartCost", name := "run", desc := "(J)I" } : Jvm.MethodName) ({ cls := "WasteHouse$ApartCost", name := "run", desc := "(J)I" } : Jvm.MethodName)) ∈ lw_all := lw_g (lw_at lw_m13 71 rfl) rfl
theorem q3344 : (Jvm.Cond.code ({ cls := "WasteHouse$ApartCost", name := "run", desc := "(J)I" } : Jvm.MethodName) prog_2_method_26_code (8 : Nat) (Option.some Jvm.ClassFile.FieldType.int)) ∈ lw_all := lw_g (lw_at lw_m13 72 rfl) rfl
theorem q3345 : (Jvm.Cond.methodLink "WasteHouse$ApartCost" (165 : Nat) ({ cls := "WasteHouse$ApartCost", name := "states", desc := "()J" } : Jvm.MethodName)) ∈ lw_all := lw_g (lw_at lw_m13 73 rfl) rfl
theorem q3346 : (Jvm.Cond.methodLink "WasteHouse$ApartCost" (169 : Nat) ({ cls := "WasteHouse$ApartCost", name := "fill", desc := "()J" } : Jvm.MethodName)) ∈ lw_all := lw_g (lw_at lw_m13 74 rfl) rfl
theorem q3347 : (Jvm.Cond.privateMethod ({ cls := "WasteHouse$ApartCost", name := "fill", desc := "()J" } : Jvm.MethodName)) ∈ lw_tbl := lw_at lw_m13 75 rfl
theorem q3348 : (Jvm.Cond.instanceMethod ({ cls := "WasteHouse$ApartCost", name := "fill", desc := "()J" } : Jvm.MethodName)) ∈ lw_all := lw_g (lw_at lw_m13 76 rfl) rfl
theorem q3349 : (Jvm.Cond.code ({ cls := "WasteHouse$ApartCost", name := "fill", desc := "()J" } : Jvm.MethodName) prog_2_method_24_code (5 : Nat) (Option.some Jvm.ClassFile.FieldType.long)) ∈ lw_all := lw_g (lw_at lw_m13 77 rfl) rfl
theorem q3350 : (Jvm.Cond.methodLink "WasteHouse$ApartCost" (140 : Nat) ({ cls := "WasteHouse$ApartCost", name := "counts", desc := "(I)J" } : Jvm.MethodName)) ∈ lw_all := lw_g (lw_at lw_m13 78 rfl) rfl
theorem q3351 : (Jvm.Cond.privateMethod ({ cls := "WasteHouse$ApartCost", name := "counts", desc := "(I)J" } : Jvm.MethodName)) ∈ lw_tbl := lw_at lw_m13 79 rfl
theorem q3352 : (Jvm.Cond.instanceMethod ({ cls := "WasteHouse$ApartCost", name := "counts", desc := "(I)J" } : Jvm.MethodName)) ∈ lw_all := lw_g (lw_at lw_m13 80 rfl) rfl
theorem q3353 : (Jvm.Cond.code ({ cls := "WasteHouse$ApartCost", name := "counts", desc := "(I)J" } : Jvm.MethodName) prog_2_method_17_code (7 : Nat) (Option.some Jvm.ClassFile.FieldType.long)) ∈ lw_all := lw_g (lw_at lw_m13 81 rfl) rfl
theorem q3354 : (Jvm.Cond.methodLink "WasteHouse$ApartCost" (119 : Nat) ({ cls := "WasteHouse$ApartCost", name := "freeBy", desc := "(I)I" } : Jvm.MethodName)) ∈ lw_all := lw_g (lw_at lw_m13 82 rfl) rfl
theorem q3355 : (Jvm.Cond.privateMethod ({ cls := "WasteHouse$ApartCost", name := "freeBy", desc := "(I)I" } : Jvm.MethodName)) ∈ lw_tbl := lw_at lw_m13 83 rfl
theorem q3356 : (Jvm.Cond.instanceMethod ({ cls := "WasteHouse$ApartCost", name := "freeBy", desc := "(I)I" } : Jvm.MethodName)) ∈ lw_all := lw_g (lw_at lw_m13 84 rfl) rfl
theorem q3357 : (Jvm.Cond.code ({ cls := "WasteHouse$ApartCost", name := "freeBy", desc := "(I)I" } : Jvm.MethodName) prog_2_method_14_code (4 : Nat) (Option.some Jvm.ClassFile.FieldType.int)) ∈ lw_all := lw_g (lw_at lw_m13 85 rfl) rfl
theorem q3358 : (Jvm.Cond.methodLink "WasteHouse$ApartCost" (122 : Nat) ({ cls := "WasteHouse$ApartCost", name := "brokenBy", desc := "(I)I" } : Jvm.MethodName)) ∈ lw_all := lw_g (lw_at lw_m13 86 rfl) rfl
theorem q3359 : (Jvm.Cond.privateMethod ({ cls := "WasteHouse$ApartCost", name := "brokenBy", desc := "(I)I" } : Jvm.MethodName)) ∈ lw_tbl := lw_at lw_m13 87 rfl
theorem q3360 : (Jvm.Cond.instanceMethod ({ cls := "WasteHouse$ApartCost", name := "brokenBy", desc := "(I)I" } : Jvm.MethodName)) ∈ lw_all := lw_g (lw_at lw_m13 88 rfl) rfl
theorem q3361 : (Jvm.Cond.code ({ cls := "WasteHouse$ApartCost", name := "brokenBy", desc := "(I)I" } : Jvm.MethodName) prog_2_method_15_code (4 : Nat) (Option.some Jvm.ClassFile.FieldType.int)) ∈ lw_all := lw_g (lw_at lw_m13 89 rfl) rfl
theorem q3362 : (Jvm.Cond.methodLink "WasteHouse$ApartCost" (125 : Nat) ({ cls := "WasteHouse$ApartCost", name := "worthOf", desc := "(I)J" } : Jvm.MethodName)) ∈ lw_all := lw_g (lw_at lw_m13 90 rfl) rfl
theorem q3363 : (Jvm.Cond.privateMethod ({ cls := "WasteHouse$ApartCost", name := "worthOf", desc := "(I)J" } : Jvm.MethodName)) ∈ lw_tbl := lw_at lw_m13 91 rfl
theorem q3364 : (Jvm.Cond.instanceMethod ({ cls := "WasteHouse$ApartCost", name := "worthOf", desc := "(I)J" } : Jvm.MethodName)) ∈ lw_all := lw_g (lw_at lw_m13 92 rfl) rfl
theorem q3365 : (Jvm.Cond.code ({ cls := "WasteHouse$ApartCost", name := "worthOf", desc := "(I)J" } : Jvm.MethodName) prog_2_method_16_code (2 : Nat) (Option.some Jvm.ClassFile.FieldType.long)) ∈ lw_all := lw_g (lw_at lw_m13 93 rfl) rfl
theorem q3366 : (Jvm.Cond.methodLink "WasteHouse$ApartCost" (143 : Nat) ({ cls := "WasteHouse$ApartCost", name := "at", desc := "(II)I" } : Jvm.MethodName)) ∈ lw_all := lw_g (lw_at lw_m13 94 rfl) rfl
theorem q3367 : (Jvm.Cond.static ({ cls := "WasteHouse$ApartCost", name := "at", desc := "(II)I" } : Jvm.MethodName)) ∈ lw_all := lw_g (lw_at lw_m13 95 rfl) rfl
theorem q3368 : (Jvm.Cond.code ({ cls := "WasteHouse$ApartCost", name := "at", desc := "(II)I" } : Jvm.MethodName) prog_2_method_20_code (2 : Nat) (Option.some Jvm.ClassFile.FieldType.int)) ∈ lw_all := lw_g (lw_at lw_m13 96 rfl) rfl
theorem q3369 : (Jvm.Cond.methodLink "WasteHouse$ApartCost" (146 : Nat) ({ cls := "WasteHouse$ApartCost", name := "goOn", desc := "(II)J" } : Jvm.MethodName)) ∈ lw_all := lw_g (lw_at lw_m13 97 rfl) rfl
theorem q3370 : (Jvm.Cond.privateMethod ({ cls := "WasteHouse$ApartCost", name := "goOn", desc := "(II)J" } : Jvm.MethodName)) ∈ lw_tbl := lw_at lw_m13 98 rfl
theorem q3371 : (Jvm.Cond.instanceMethod ({ cls := "WasteHouse$ApartCost", name := "goOn", desc := "(II)J" } : Jvm.MethodName)) ∈ lw_all := lw_g (lw_at lw_m13 99 rfl) rfl
theorem q3372 : (Jvm.Cond.code ({ cls := "WasteHouse$ApartCost", name := "goOn", desc := "(II)J" } : Jvm.MethodName) prog_2_method_25_code (6 : Nat) (Option.some Jvm.ClassFile.FieldType.long)) ∈ lw_all := lw_g (lw_at lw_m13 100 rfl) rfl
theorem q3373 : (Jvm.Cond.constantLong "WasteHouse$ApartCost" (158 : Nat) (-9223372036854775808 : Int64)) ∈ lw_all := lw_g (lw_at lw_m13 101 rfl) rfl
theorem q3374 : (Jvm.Cond.methodLink "WasteHouse$ApartCost" (160 : Nat) ({ cls := "WasteHouse$ApartCost", name := "mayCome", desc := "(II)Z" } : Jvm.MethodName)) ∈ lw_all := lw_g (lw_at lw_m13 102 rfl) rfl
theorem q3375 : (Jvm.Cond.privateMethod ({ cls := "WasteHouse$ApartCost", name := "mayCome", desc := "(II)Z" } : Jvm.MethodName)) ∈ lw_tbl := lw_at lw_m13 103 rfl
theorem q3376 : (Jvm.Cond.instanceMethod ({ cls := "WasteHouse$ApartCost", name := "mayCome", desc := "(II)Z" } : Jvm.MethodName)) ∈ lw_all := lw_g (lw_at lw_m13 104 rfl) rfl
theorem q3377 : (Jvm.Cond.code ({ cls := "WasteHouse$ApartCost", name := "mayCome", desc := "(II)Z" } : Jvm.MethodName) prog_2_method_18_code (3 : Nat) (Option.some Jvm.ClassFile.FieldType.boolean)) ∈ lw_all := lw_g (lw_at lw_m13 105 rfl) rfl
theorem q3378 : (Jvm.Cond.methodLink "WasteHouse$ApartCost" (163 : Nat) ({ cls := "WasteHouse$ApartCost", name := "cost", desc := "(II)J" } : Jvm.MethodName)) ∈ lw_all := lw_g (lw_at lw_m13 106 rfl) rfl
theorem q3379 : (Jvm.Cond.privateMethod ({ cls := "WasteHouse$ApartCost", name := "cost", desc := "(II)J" } : Jvm.MethodName)) ∈ lw_tbl := lw_at lw_m13 107 rfl
theorem q3380 : (Jvm.Cond.instanceMethod ({ cls := "WasteHouse$ApartCost", name := "cost", desc := "(II)J" } : Jvm.MethodName)) ∈ lw_all := lw_g (lw_at lw_m13 108 rfl) rfl
theorem q3381 : (Jvm.Cond.code ({ cls := "WasteHouse$ApartCost", name := "cost", desc := "(II)J" } : Jvm.MethodName) prog_2_method_19_code (5 : Nat) (Option.some Jvm.ClassFile.FieldType.long)) ∈ lw_all := lw_g (lw_at lw_m13 109 rfl) rfl
theorem q3382 : (Jvm.Cond.methodLink "WasteHouse$ApartCost" (129 : Nat) ({ cls := "WasteHouse$ApartCost$Steps", name := "cost", desc := "(II)I" } : Jvm.MethodName)) ∈ lw_all := lw_g (lw_at lw_m13 110 rfl) rfl
theorem q3386 : (Jvm.Cond.methodLink "WasteHouse$ApartCost" (150 : Nat) ({ cls := "java/lang/Math", name := "max", desc := "(JJ)J" } : Jvm.MethodName)) ∈ lw_all := lw_g (lw_at lw_m13 114 rfl) rfl
theorem q3390 : (Jvm.Cond.instanceMethod ({ cls := "WasteHouse$ApartCost", name := "step", desc := "(I)I" } : Jvm.MethodName)) ∈ lw_all := lw_g (lw_at lw_m13 118 rfl) rfl
theorem q3391 : (Jvm.Cond.selects "WasteHouse$ApartCost" ({ cls := "WasteHouse$ApartCost", name := "step", desc := "(I)I" } : Jvm.MethodName) ({ cls := "WasteHouse$ApartCost", name := "step", desc := "(I)I" } : Jvm.MethodName)) ∈ lw_all := lw_g (lw_at lw_m13 119 rfl) rfl
theorem q3392 : (Jvm.Cond.code ({ cls := "WasteHouse$ApartCost", name := "step", desc := "(I)I" } : Jvm.MethodName) prog_2_method_27_code (2 : Nat) (Option.some Jvm.ClassFile.FieldType.int)) ∈ lw_all := lw_g (lw_at lw_m13 120 rfl) rfl
theorem q3394 : (Jvm.Cond.instanceMethod ({ cls := "WasteHouse$ApartCost", name := "stops", desc := "(I)I" } : Jvm.MethodName)) ∈ lw_all := lw_g (lw_at lw_m13 122 rfl) rfl
theorem q3395 : (Jvm.Cond.selects "WasteHouse$ApartCost" ({ cls := "WasteHouse$ApartCost", name := "stops", desc := "(I)I" } : Jvm.MethodName) ({ cls := "WasteHouse$ApartCost", name := "stops", desc := "(I)I" } : Jvm.MethodName)) ∈ lw_all := lw_g (lw_at lw_m13 123 rfl) rfl
theorem q3396 : (Jvm.Cond.code ({ cls := "WasteHouse$ApartCost", name := "stops", desc := "(I)I" } : Jvm.MethodName) prog_2_method_29_code (2 : Nat) (Option.some Jvm.ClassFile.FieldType.int)) ∈ lw_all := lw_g (lw_at lw_m13 124 rfl) rfl
theorem q3397 : (Jvm.Cond.methodLink "WasteHouse$ApartCost" (196 : Nat) ({ cls := "WasteHouse$ApartCost", name := "bit", desc := "(II)I" } : Jvm.MethodName)) ∈ lw_all := lw_g (lw_at lw_m13 125 rfl) rfl
theorem q3398 : (Jvm.Cond.static ({ cls := "WasteHouse$ApartCost", name := "bit", desc := "(II)I" } : Jvm.MethodName)) ∈ lw_all := lw_g (lw_at lw_m13 126 rfl) rfl
theorem q3399 : (Jvm.Cond.code ({ cls := "WasteHouse$ApartCost", name := "bit", desc := "(II)I" } : Jvm.MethodName) prog_2_method_28_code (4 : Nat) (Option.some Jvm.ClassFile.FieldType.int)) ∈ lw_all := lw_g (lw_at lw_m13 127 rfl) rfl
theorem q3400 : (Jvm.Cond.methodLink "WasteHouse$ApartCost" (191 : Nat) ({ cls := "java/lang/Integer", name := "numberOfTrailingZeros", desc := "(I)I" } : Jvm.MethodName)) ∈ lw_all := lw_g (lw_at lw_m13 128 rfl) rfl
theorem q3405 : (Jvm.Cond.instanceMethod ({ cls := "WasteHouse$ApartCost", name := "other", desc := "(I)I" } : Jvm.MethodName)) ∈ lw_all := lw_g (lw_at lw_m13 133 rfl) rfl
theorem q3406 : (Jvm.Cond.selects "WasteHouse$ApartCost" ({ cls := "WasteHouse$ApartCost", name := "other", desc := "(I)I" } : Jvm.MethodName) ({ cls := "WasteHouse$ApartCost", name := "other", desc := "(I)I" } : Jvm.MethodName)) ∈ lw_all := lw_g (lw_at lw_m13 134 rfl) rfl
theorem q3407 : (Jvm.Cond.code ({ cls := "WasteHouse$ApartCost", name := "other", desc := "(I)I" } : Jvm.MethodName) prog_2_method_30_code (2 : Nat) (Option.some Jvm.ClassFile.FieldType.int)) ∈ lw_all := lw_g (lw_at lw_m13 135 rfl) rfl
theorem q3409 : (Jvm.Cond.instanceMethod ({ cls := "WasteHouse$ApartCost", name := "gain", desc := "(I)J" } : Jvm.MethodName)) ∈ lw_all := lw_g (lw_at lw_m13 137 rfl) rfl
theorem q3410 : (Jvm.Cond.selects "WasteHouse$ApartCost" ({ cls := "WasteHouse$ApartCost", name := "gain", desc := "(I)J" } : Jvm.MethodName) ({ cls := "WasteHouse$ApartCost", name := "gain", desc := "(I)J" } : Jvm.MethodName)) ∈ lw_all := lw_g (lw_at lw_m13 138 rfl) rfl
theorem q3411 : (Jvm.Cond.code ({ cls := "WasteHouse$ApartCost", name := "gain", desc := "(I)J" } : Jvm.MethodName) prog_2_method_31_code (2 : Nat) (Option.some Jvm.ClassFile.FieldType.long)) ∈ lw_all := lw_g (lw_at lw_m13 139 rfl) rfl
theorem q3413 : (Jvm.Cond.instanceMethod ({ cls := "WasteHouse$ApartCost", name := "proved", desc := "()Z" } : Jvm.MethodName)) ∈ lw_all := lw_g (lw_at lw_m13 141 rfl) rfl
theorem q3414 : (Jvm.Cond.selects "WasteHouse$ApartCost" ({ cls := "WasteHouse$ApartCost", name := "proved", desc := "()Z" } : Jvm.MethodName) ({ cls := "WasteHouse$ApartCost", name := "proved", desc := "()Z" } : Jvm.MethodName)) ∈ lw_all := lw_g (lw_at lw_m13 142 rfl) rfl
theorem q3415 : (Jvm.Cond.code ({ cls := "WasteHouse$ApartCost", name := "proved", desc := "()Z" } : Jvm.MethodName) prog_2_method_32_code (1 : Nat) (Option.some Jvm.ClassFile.FieldType.boolean)) ∈ lw_all := lw_g (lw_at lw_m13 143 rfl) rfl
theorem q3417 : (Jvm.Cond.instanceMethod ({ cls := "WasteHouse$ApartCost", name := "bound", desc := "()J" } : Jvm.MethodName)) ∈ lw_all := lw_g (lw_at lw_m13 145 rfl) rfl
theorem q3418 : (Jvm.Cond.selects "WasteHouse$ApartCost" ({ cls := "WasteHouse$ApartCost", name := "bound", desc := "()J" } : Jvm.MethodName) ({ cls := "WasteHouse$ApartCost", name := "bound", desc := "()J" } : Jvm.MethodName)) ∈ lw_all := lw_g (lw_at lw_m13 146 rfl) rfl
theorem q3419 : (Jvm.Cond.code ({ cls := "WasteHouse$ApartCost", name := "bound", desc := "()J" } : Jvm.MethodName) prog_2_method_33_code (5 : Nat) (Option.some Jvm.ClassFile.FieldType.long)) ∈ lw_all := lw_g (lw_at lw_m13 147 rfl) rfl
theorem q3420 : (Jvm.Cond.methodLink "WasteHouse$ApartCost" (199 : Nat) ({ cls := "java/lang/Math", name := "max", desc := "(II)I" } : Jvm.MethodName)) ∈ lw_all := lw_g (lw_at lw_m13 148 rfl) rfl
theorem q3422 : (Jvm.Cond.instanceMethod ({ cls := "WasteHouse$ApartCost", name := "test", desc := "(IJ)I" } : Jvm.MethodName)) ∈ lw_all := lw_g (lw_at lw_m13 150 rfl) rfl
theorem q3423 : (Jvm.Cond.selects "WasteHouse$ApartCost" ({ cls := "WasteHouse$ApartCost", name := "test", desc := "(IJ)I" } : Jvm.MethodName) ({ cls := "WasteHouse$ApartCost", name := "test", desc := "(IJ)I" } : Jvm.MethodName)) ∈ lw_all := lw_g (lw_at lw_m13 151 rfl) rfl
theorem q3424 : (Jvm.Cond.code ({ cls := "WasteHouse$ApartCost", name := "test", desc := "(IJ)I" } : Jvm.MethodName) prog_2_method_34_code (11 : Nat) (Option.some Jvm.ClassFile.FieldType.int)) ∈ lw_all := lw_g (lw_at lw_m13 152 rfl) rfl
theorem q3425 : (Jvm.Cond.constantLong "WasteHouse$ApartCost" (201 : Nat) (768398400 : Int64)) ∈ lw_all := lw_g (lw_at lw_m13 153 rfl) rfl
theorem q3427 : (Jvm.Cond.instanceMethod ({ cls := "WasteHouse$ApartCost", name := "stations", desc := "(I)I" } : Jvm.MethodName)) ∈ lw_all := lw_g (lw_at lw_m13 155 rfl) rfl
theorem q3428 : (Jvm.Cond.selects "WasteHouse$ApartCost" ({ cls := "WasteHouse$ApartCost", name := "stations", desc := "(I)I" } : Jvm.MethodName) ({ cls := "WasteHouse$ApartCost", name := "stations", desc := "(I)I" } : Jvm.MethodName)) ∈ lw_all := lw_g (lw_at lw_m13 156 rfl) rfl
theorem q3429 : (Jvm.Cond.code ({ cls := "WasteHouse$ApartCost", name := "stations", desc := "(I)I" } : Jvm.MethodName) prog_2_method_35_code (6 : Nat) (Option.some Jvm.ClassFile.FieldType.int)) ∈ lw_all := lw_g (lw_at lw_m13 157 rfl) rfl
theorem q3430 : (Jvm.Cond.constantLong "WasteHouse$ApartCost" (203 : Nat) (9223372036854775807 : Int64)) ∈ lw_all := lw_g (lw_at lw_m13 158 rfl) rfl
theorem q3431 : (Jvm.Cond.methodLink "WasteHouse$ApartCost" (205 : Nat) ({ cls := "WasteHouse$ApartCost", name := "nextOf", desc := "(I)I" } : Jvm.MethodName)) ∈ lw_all := lw_g (lw_at lw_m13 159 rfl) rfl
theorem q3432 : (Jvm.Cond.privateMethod ({ cls := "WasteHouse$ApartCost", name := "nextOf", desc := "(I)I" } : Jvm.MethodName)) ∈ lw_tbl := lw_at lw_m13 160 rfl
theorem q3433 : (Jvm.Cond.instanceMethod ({ cls := "WasteHouse$ApartCost", name := "nextOf", desc := "(I)I" } : Jvm.MethodName)) ∈ lw_all := lw_g (lw_at lw_m13 161 rfl) rfl
theorem q3434 : (Jvm.Cond.code ({ cls := "WasteHouse$ApartCost", name := "nextOf", desc := "(I)I" } : Jvm.MethodName) prog_2_method_36_code (3 : Nat) (Option.some Jvm.ClassFile.FieldType.int)) ∈ lw_all := lw_g (lw_at lw_m13 162 rfl) rfl
theorem q3435 : (Jvm.Cond.methodLink "WasteHouse$ApartCost" (208 : Nat) ({ cls := "WasteHouse$ApartCost", name := "lastOf", desc := "(I)I" } : Jvm.MethodName)) ∈ lw_all := lw_g (lw_at lw_m13 163 rfl) rfl
theorem q3436 : (Jvm.Cond.privateMethod ({ cls := "WasteHouse$ApartCost", name := "lastOf", desc := "(I)I" } : Jvm.MethodName)) ∈ lw_tbl := lw_at lw_m13 164 rfl
theorem q3437 : (Jvm.Cond.instanceMethod ({ cls := "WasteHouse$ApartCost", name := "lastOf", desc := "(I)I" } : Jvm.MethodName)) ∈ lw_all := lw_g (lw_at lw_m13 165 rfl) rfl
theorem q3438 : (Jvm.Cond.code ({ cls := "WasteHouse$ApartCost", name := "lastOf", desc := "(I)I" } : Jvm.MethodName) prog_2_method_37_code (3 : Nat) (Option.some Jvm.ClassFile.FieldType.int)) ∈ lw_all := lw_g (lw_at lw_m13 166 rfl) rfl
theorem q3439 : (Jvm.Cond.methodLink "WasteHouse$ApartCost" (211 : Nat) ({ cls := "WasteHouse$ApartCost", name := "isAllowed", desc := "(I)Z" } : Jvm.MethodName)) ∈ lw_all := lw_g (lw_at lw_m13 167 rfl) rfl
theorem q3440 : (Jvm.Cond.privateMethod ({ cls := "WasteHouse$ApartCost", name := "isAllowed", desc := "(I)Z" } : Jvm.MethodName)) ∈ lw_tbl := lw_at lw_m13 168 rfl
theorem q3441 : (Jvm.Cond.instanceMethod ({ cls := "WasteHouse$ApartCost", name := "isAllowed", desc := "(I)Z" } : Jvm.MethodName)) ∈ lw_all := lw_g (lw_at lw_m13 169 rfl) rfl
theorem q3442 : (Jvm.Cond.code ({ cls := "WasteHouse$ApartCost", name := "isAllowed", desc := "(I)Z" } : Jvm.MethodName) prog_2_method_38_code (4 : Nat) (Option.some Jvm.ClassFile.FieldType.boolean)) ∈ lw_all := lw_g (lw_at lw_m13 170 rfl) rfl
theorem q3443 : (Jvm.Cond.methodLink "WasteHouse$ApartCost" (214 : Nat) ({ cls := "WasteHouse$ApartCost", name := "longest", desc := "(I)J" } : Jvm.MethodName)) ∈ lw_all := lw_g (lw_at lw_m13 171 rfl) rfl
theorem q3444 : (Jvm.Cond.privateMethod ({ cls := "WasteHouse$ApartCost", name := "longest", desc := "(I)J" } : Jvm.MethodName)) ∈ lw_tbl := lw_at lw_m13 172 rfl
theorem q3445 : (Jvm.Cond.instanceMethod ({ cls := "WasteHouse$ApartCost", name := "longest", desc := "(I)J" } : Jvm.MethodName)) ∈ lw_all := lw_g (lw_at lw_m13 173 rfl) rfl
theorem q3446 : (Jvm.Cond.code ({ cls := "WasteHouse$ApartCost", name := "longest", desc := "(I)J" } : Jvm.MethodName) prog_2_method_39_code (5 : Nat) (Option.some Jvm.ClassFile.FieldType.long)) ∈ lw_all := lw_g (lw_at lw_m13 174 rfl) rfl
theorem q3447 : (Jvm.Cond.methodLink "WasteHouse$ApartCost" (217 : Nat) ({ cls := "java/lang/System", name := "arraycopy", desc := "(Ljava/lang/Object;ILjava/lang/Object;II)V" } : Jvm.MethodName)) ∈ lw_all := lw_g (lw_at lw_m13 175 rfl) rfl
theorem q3449 : (Jvm.Cond.instanceMethod ({ cls := "WasteHouse$ApartCost", name := "station", desc := "(I)I" } : Jvm.MethodName)) ∈ lw_all := lw_g (lw_at lw_m13 177 rfl) rfl
theorem q3450 : (Jvm.Cond.selects "WasteHouse$ApartCost" ({ cls := "WasteHouse$ApartCost", name := "station", desc := "(I)I" } : Jvm.MethodName) ({ cls := "WasteHouse$ApartCost", name := "station", desc := "(I)I" } : Jvm.MethodName)) ∈ lw_all := lw_g (lw_at lw_m13 178 rfl) rfl
theorem q3451 : (Jvm.Cond.code ({ cls := "WasteHouse$ApartCost", name := "station", desc := "(I)I" } : Jvm.MethodName) prog_2_method_40_code (2 : Nat) (Option.some Jvm.ClassFile.FieldType.int)) ∈ lw_all := lw_g (lw_at lw_m13 179 rfl) rfl
theorem q3596 : (Jvm.Cond.selects "WasteHouse$ApartCost" ({ cls := "java/lang/Object", name := "hashCode", desc := "()I" } : Jvm.MethodName) ({ cls := "java/lang/Object", name := "hashCode", desc := "()I" } : Jvm.MethodName)) ∈ lw_all := lw_g (lw_at lw_m14 84 rfl) rfl
theorem q9652 : (Jvm.Cond.castable "WasteHouse$ApartCost" "java/lang/Object") ∈ lw_tbl := lw_at lw_m39 140 rfl
theorem in_X28 : ∀ w ∈ wsX280, w ∈ lw_all := lw_in wsX280 [1589, 1591, 1593, 1595, 1597, 1599, 1601, 1603, 1605, 1607, 1609, 1611, 1613, 1615, 1617, 1619, 1621, 1623, 1625, 1627, 1629, 1631] (by decide +kernel) (by decide +kernel)
