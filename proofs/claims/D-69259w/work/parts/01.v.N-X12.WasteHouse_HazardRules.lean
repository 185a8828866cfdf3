/-! WasteHouse$HazardRules -/
set_option maxRecDepth 100000
def RX12 : String := "WasteHouse$HazardRules"
def TX12 : u_T := fun k => match k with
  | 0 => ("WasteHouse$HazardRules", "told", "LWasteHouse$HazardRules$Words;", true)
  | 1 => ("WasteHouse$HazardRules", "kept", "LWasteHouse$HazardRules$Words;", true)
  | 2 => ("WasteHouse$HazardRules", "fresh", "LWasteHouse$HazardRules$Code;", true)
  | 3 => ("WasteHouse$HazardRules", "code", "LWasteHouse$HazardRules$Code;", true)
  | 4 => ("WasteHouse$HazardRules", "reader", "LWasteHouse$HazardRules$Reader;", true)
  | 5 => ("WasteHouse$HazardRules", "lows", "[I", true)
  | 6 => ("WasteHouse$HazardRules", "highs", "[I", true)
  | 7 => ("WasteHouse$HazardRules", "results", "[I", true)
  | 8 => ("WasteHouse$HazardRules", "isStrict", "Z", false)
  | 9 => ("WasteHouse$HazardRules", "states", "[I", true)
  | 10 => ("WasteHouse$HazardRules", "lacks", "[I", true)
  | 11 => ("WasteHouse$HazardRules", "acted", "I", false)
  | 12 => ("WasteHouse$HazardRules", "won", "I", false)
  | 13 => ("WasteHouse$HazardRules", "holding", "I", false)
  | 14 => ("WasteHouse$HazardRules", "doubtful", "I", false)
  | 15 => ("WasteHouse$HazardRules", "order", "[I", true)
  | 16 => ("WasteHouse$HazardRules", "held", "I", false)
  | 17 => ("WasteHouse$HazardRules", "lack", "I", false)
  | _ => ("WasteHouse$HazardRules", "step", "I", false)
def tyX12 : Nat → FieldType := fun k => match k with
  | 0 => .object "WasteHouse$HazardRules$Words"
  | 1 => .object "WasteHouse$HazardRules$Words"
  | 2 => .object "WasteHouse$HazardRules$Code"
  | 3 => .object "WasteHouse$HazardRules$Code"
  | 4 => .object "WasteHouse$HazardRules$Reader"
  | 5 => .array .int
  | 6 => .array .int
  | 7 => .array .int
  | 8 => .boolean
  | 9 => .array .int
  | 10 => .array .int
  | 11 => .int
  | 12 => .int
  | 13 => .int
  | 14 => .int
  | 15 => .array .int
  | 16 => .int
  | 17 => .int
  | _ => .int
abbrev wsX120 : List Cond := u_ws RX12 TX12 19
set_option maxRecDepth 100000 in
theorem nmX12 : ∀ a, a < 19 → ∀ b, b < 19 → a ≠ b → (TX12 a).2.1 ≠ (TX12 b).2.1 := by decide +kernel
set_option maxRecDepth 100000 in
theorem tyX12_ok : ∀ k, k < 19 → parseFieldDescriptor (TX12 k).2.2.1 = some (tyX12 k) := by decide +kernel
abbrev cX12_init : ByteArray := prog_19_method_1_code
def yX12_init : MethodName := ⟨RX12, "<init>", "()V"⟩
def dkwX12_init_5 : List UInt8 := [181, 0, 58, 42, 16, 20, 188, 10, 181, 0, 62, 42, 182, 0, 65, 177]
abbrev dktX12_init_5 : List UInt8 := dkwX12_init_5 ++ []
def dkwX12_init_4 : List UInt8 := [4, 181, 0, 48, 42, 16, 60, 188, 10, 181, 0, 52, 42, 16, 60, 188, 10, 181, 0, 55, 42, 2]
abbrev dktX12_init_4 : List UInt8 := dkwX12_init_4 ++ dktX12_init_5
def dkwX12_init_3 : List UInt8 := [16, 16, 188, 10, 181, 0, 38, 42, 16, 16, 188, 10, 181, 0, 42, 42, 16, 8, 188, 10, 181, 0, 45, 42]
abbrev dktX12_init_3 : List UInt8 := dkwX12_init_3 ++ dktX12_init_4
def dkwX12_init_2 : List UInt8 := [181, 0, 26, 42, 187, 0, 29, 89, 42, 180, 0, 10, 42, 180, 0, 22, 183, 0, 31, 181, 0, 34, 42]
abbrev dktX12_init_2 : List UInt8 := dkwX12_init_2 ++ dktX12_init_3
def dkwX12_init_1 : List UInt8 := [181, 0, 16, 42, 187, 0, 19, 89, 183, 0, 21, 181, 0, 22, 42, 187, 0, 19, 89, 183, 0, 21]
abbrev dktX12_init_1 : List UInt8 := dkwX12_init_1 ++ dktX12_init_2
def dkwX12_init_0 : List UInt8 := [42, 183, 0, 1, 42, 187, 0, 7, 89, 183, 0, 9, 181, 0, 10, 42, 187, 0, 7, 89, 183, 0, 9]
abbrev dktX12_init_0 : List UInt8 := dkwX12_init_0 ++ dktX12_init_1
theorem dksX12_init_0 : cX12_init.data.toList.drop 0 = dktX12_init_0 := by decide +kernel
theorem dksX12_init_1 : cX12_init.data.toList.drop 23 = dktX12_init_1 := dk_seg dksX12_init_0 23 rfl rfl
theorem dksX12_init_2 : cX12_init.data.toList.drop 45 = dktX12_init_2 := dk_seg dksX12_init_1 22 rfl rfl
theorem dksX12_init_3 : cX12_init.data.toList.drop 68 = dktX12_init_3 := dk_seg dksX12_init_2 23 rfl rfl
theorem dksX12_init_4 : cX12_init.data.toList.drop 92 = dktX12_init_4 := dk_seg dksX12_init_3 24 rfl rfl
theorem dksX12_init_5 : cX12_init.data.toList.drop 114 = dktX12_init_5 := dk_seg dksX12_init_4 22 rfl rfl
theorem dX12_init_0 : decode cX12_init 0 = .ok (.aload_n 0, 1) := dk_42 (dk_at dksX12_init_0 0 rfl rfl)
theorem dX12_init_1 : decode cX12_init 1 = .ok (.invokespecial 1, 3) := dk_183 0 1 (dk_at dksX12_init_0 1 rfl rfl)
theorem dX12_init_4 : decode cX12_init 4 = .ok (.aload_n 0, 1) := dk_42 (dk_at dksX12_init_0 4 rfl rfl)
theorem dX12_init_5 : decode cX12_init 5 = .ok (.new 7, 3) := dk_187 0 7 (dk_at dksX12_init_0 5 rfl rfl)
theorem dX12_init_8 : decode cX12_init 8 = .ok (.dup, 1) := dk_89 (dk_at dksX12_init_0 8 rfl rfl)
theorem dX12_init_9 : decode cX12_init 9 = .ok (.invokespecial 9, 3) := dk_183 0 9 (dk_at dksX12_init_0 9 rfl rfl)
theorem dX12_init_12 : decode cX12_init 12 = .ok (.putfield 10, 3) := dk_181 0 10 (dk_at dksX12_init_0 12 rfl rfl)
theorem dX12_init_15 : decode cX12_init 15 = .ok (.aload_n 0, 1) := dk_42 (dk_at dksX12_init_0 15 rfl rfl)
theorem dX12_init_16 : decode cX12_init 16 = .ok (.new 7, 3) := dk_187 0 7 (dk_at dksX12_init_0 16 rfl rfl)
theorem dX12_init_19 : decode cX12_init 19 = .ok (.dup, 1) := dk_89 (dk_at dksX12_init_0 19 rfl rfl)
theorem dX12_init_20 : decode cX12_init 20 = .ok (.invokespecial 9, 3) := dk_183 0 9 (dk_at dksX12_init_0 20 rfl rfl)
theorem dX12_init_23 : decode cX12_init 23 = .ok (.putfield 16, 3) := dk_181 0 16 (dk_at dksX12_init_1 0 rfl rfl)
theorem dX12_init_26 : decode cX12_init 26 = .ok (.aload_n 0, 1) := dk_42 (dk_at dksX12_init_1 3 rfl rfl)
theorem dX12_init_27 : decode cX12_init 27 = .ok (.new 19, 3) := dk_187 0 19 (dk_at dksX12_init_1 4 rfl rfl)
theorem dX12_init_30 : decode cX12_init 30 = .ok (.dup, 1) := dk_89 (dk_at dksX12_init_1 7 rfl rfl)
theorem dX12_init_31 : decode cX12_init 31 = .ok (.invokespecial 21, 3) := dk_183 0 21 (dk_at dksX12_init_1 8 rfl rfl)
theorem dX12_init_34 : decode cX12_init 34 = .ok (.putfield 22, 3) := dk_181 0 22 (dk_at dksX12_init_1 11 rfl rfl)
theorem dX12_init_37 : decode cX12_init 37 = .ok (.aload_n 0, 1) := dk_42 (dk_at dksX12_init_1 14 rfl rfl)
theorem dX12_init_38 : decode cX12_init 38 = .ok (.new 19, 3) := dk_187 0 19 (dk_at dksX12_init_1 15 rfl rfl)
theorem dX12_init_41 : decode cX12_init 41 = .ok (.dup, 1) := dk_89 (dk_at dksX12_init_1 18 rfl rfl)
theorem dX12_init_42 : decode cX12_init 42 = .ok (.invokespecial 21, 3) := dk_183 0 21 (dk_at dksX12_init_1 19 rfl rfl)
theorem dX12_init_45 : decode cX12_init 45 = .ok (.putfield 26, 3) := dk_181 0 26 (dk_at dksX12_init_2 0 rfl rfl)
theorem dX12_init_48 : decode cX12_init 48 = .ok (.aload_n 0, 1) := dk_42 (dk_at dksX12_init_2 3 rfl rfl)
theorem dX12_init_49 : decode cX12_init 49 = .ok (.new 29, 3) := dk_187 0 29 (dk_at dksX12_init_2 4 rfl rfl)
theorem dX12_init_52 : decode cX12_init 52 = .ok (.dup, 1) := dk_89 (dk_at dksX12_init_2 7 rfl rfl)
theorem dX12_init_53 : decode cX12_init 53 = .ok (.aload_n 0, 1) := dk_42 (dk_at dksX12_init_2 8 rfl rfl)
theorem dX12_init_54 : decode cX12_init 54 = .ok (.getfield 10, 3) := dk_180 0 10 (dk_at dksX12_init_2 9 rfl rfl)
theorem dX12_init_57 : decode cX12_init 57 = .ok (.aload_n 0, 1) := dk_42 (dk_at dksX12_init_2 12 rfl rfl)
theorem dX12_init_58 : decode cX12_init 58 = .ok (.getfield 22, 3) := dk_180 0 22 (dk_at dksX12_init_2 13 rfl rfl)
theorem dX12_init_61 : decode cX12_init 61 = .ok (.invokespecial 31, 3) := dk_183 0 31 (dk_at dksX12_init_2 16 rfl rfl)
theorem dX12_init_64 : decode cX12_init 64 = .ok (.putfield 34, 3) := dk_181 0 34 (dk_at dksX12_init_2 19 rfl rfl)
theorem dX12_init_67 : decode cX12_init 67 = .ok (.aload_n 0, 1) := dk_42 (dk_at dksX12_init_2 22 rfl rfl)
theorem dX12_init_68 : decode cX12_init 68 = .ok (.bipush 16, 2) := dk_16 16 (dk_at dksX12_init_3 0 rfl rfl)
theorem dX12_init_70 : decode cX12_init 70 = .ok (.newarray .int, 2) := dk_188_10 (dk_at dksX12_init_3 2 rfl rfl)
theorem dX12_init_72 : decode cX12_init 72 = .ok (.putfield 38, 3) := dk_181 0 38 (dk_at dksX12_init_3 4 rfl rfl)
theorem dX12_init_75 : decode cX12_init 75 = .ok (.aload_n 0, 1) := dk_42 (dk_at dksX12_init_3 7 rfl rfl)
theorem dX12_init_76 : decode cX12_init 76 = .ok (.bipush 16, 2) := dk_16 16 (dk_at dksX12_init_3 8 rfl rfl)
theorem dX12_init_78 : decode cX12_init 78 = .ok (.newarray .int, 2) := dk_188_10 (dk_at dksX12_init_3 10 rfl rfl)
theorem dX12_init_80 : decode cX12_init 80 = .ok (.putfield 42, 3) := dk_181 0 42 (dk_at dksX12_init_3 12 rfl rfl)
theorem dX12_init_83 : decode cX12_init 83 = .ok (.aload_n 0, 1) := dk_42 (dk_at dksX12_init_3 15 rfl rfl)
theorem dX12_init_84 : decode cX12_init 84 = .ok (.bipush 8, 2) := dk_16 8 (dk_at dksX12_init_3 16 rfl rfl)
theorem dX12_init_86 : decode cX12_init 86 = .ok (.newarray .int, 2) := dk_188_10 (dk_at dksX12_init_3 18 rfl rfl)
theorem dX12_init_88 : decode cX12_init 88 = .ok (.putfield 45, 3) := dk_181 0 45 (dk_at dksX12_init_3 20 rfl rfl)
theorem dX12_init_91 : decode cX12_init 91 = .ok (.aload_n 0, 1) := dk_42 (dk_at dksX12_init_3 23 rfl rfl)
theorem dX12_init_92 : decode cX12_init 92 = .ok (.iconst 1, 1) := dk_4 (dk_at dksX12_init_4 0 rfl rfl)
theorem dX12_init_93 : decode cX12_init 93 = .ok (.putfield 48, 3) := dk_181 0 48 (dk_at dksX12_init_4 1 rfl rfl)
theorem dX12_init_96 : decode cX12_init 96 = .ok (.aload_n 0, 1) := dk_42 (dk_at dksX12_init_4 4 rfl rfl)
theorem dX12_init_97 : decode cX12_init 97 = .ok (.bipush 60, 2) := dk_16 60 (dk_at dksX12_init_4 5 rfl rfl)
theorem dX12_init_99 : decode cX12_init 99 = .ok (.newarray .int, 2) := dk_188_10 (dk_at dksX12_init_4 7 rfl rfl)
theorem dX12_init_101 : decode cX12_init 101 = .ok (.putfield 52, 3) := dk_181 0 52 (dk_at dksX12_init_4 9 rfl rfl)
theorem dX12_init_104 : decode cX12_init 104 = .ok (.aload_n 0, 1) := dk_42 (dk_at dksX12_init_4 12 rfl rfl)
theorem dX12_init_105 : decode cX12_init 105 = .ok (.bipush 60, 2) := dk_16 60 (dk_at dksX12_init_4 13 rfl rfl)
theorem dX12_init_107 : decode cX12_init 107 = .ok (.newarray .int, 2) := dk_188_10 (dk_at dksX12_init_4 15 rfl rfl)
theorem dX12_init_109 : decode cX12_init 109 = .ok (.putfield 55, 3) := dk_181 0 55 (dk_at dksX12_init_4 17 rfl rfl)
theorem dX12_init_112 : decode cX12_init 112 = .ok (.aload_n 0, 1) := dk_42 (dk_at dksX12_init_4 20 rfl rfl)
theorem dX12_init_113 : decode cX12_init 113 = .ok (.iconst (-1), 1) := dk_2 (dk_at dksX12_init_4 21 rfl rfl)
theorem dX12_init_114 : decode cX12_init 114 = .ok (.putfield 58, 3) := dk_181 0 58 (dk_at dksX12_init_5 0 rfl rfl)
theorem dX12_init_117 : decode cX12_init 117 = .ok (.aload_n 0, 1) := dk_42 (dk_at dksX12_init_5 3 rfl rfl)
theorem dX12_init_118 : decode cX12_init 118 = .ok (.bipush 20, 2) := dk_16 20 (dk_at dksX12_init_5 4 rfl rfl)
theorem dX12_init_120 : decode cX12_init 120 = .ok (.newarray .int, 2) := dk_188_10 (dk_at dksX12_init_5 6 rfl rfl)
theorem dX12_init_122 : decode cX12_init 122 = .ok (.putfield 62, 3) := dk_181 0 62 (dk_at dksX12_init_5 8 rfl rfl)
theorem dX12_init_125 : decode cX12_init 125 = .ok (.aload_n 0, 1) := dk_42 (dk_at dksX12_init_5 11 rfl rfl)
theorem dX12_init_126 : decode cX12_init 126 = .ok (.invokevirtual 65, 3) := dk_182 0 65 (dk_at dksX12_init_5 12 rfl rfl)
theorem dX12_init_129 : decode cX12_init 129 = .ok (.return_, 1) := dk_177 (dk_at dksX12_init_5 15 rfl rfl)
abbrev cX12_clearParts : ByteArray := prog_19_method_7_code
def yX12_clearParts : MethodName := ⟨RX12, "clearParts", "()V"⟩
def dkwX12_clearParts_2 : List UInt8 := [167, 255, 240, 177]
abbrev dktX12_clearParts_2 : List UInt8 := dkwX12_clearParts_2 ++ []
def dkwX12_clearParts_1 : List UInt8 := [132, 1, 1, 167, 255, 233, 3, 60, 27, 16, 8, 162, 0, 16, 42, 180, 0, 45, 27, 2, 79, 132, 1, 1]
abbrev dktX12_clearParts_1 : List UInt8 := dkwX12_clearParts_1 ++ dktX12_clearParts_2
def dkwX12_clearParts_0 : List UInt8 := [3, 60, 27, 16, 16, 162, 0, 23, 42, 180, 0, 38, 27, 2, 79, 42, 180, 0, 42, 27, 2, 79]
abbrev dktX12_clearParts_0 : List UInt8 := dkwX12_clearParts_0 ++ dktX12_clearParts_1
theorem dksX12_clearParts_0 : cX12_clearParts.data.toList.drop 0 = dktX12_clearParts_0 := by decide +kernel
theorem dksX12_clearParts_1 : cX12_clearParts.data.toList.drop 22 = dktX12_clearParts_1 := dk_seg dksX12_clearParts_0 22 rfl rfl
theorem dksX12_clearParts_2 : cX12_clearParts.data.toList.drop 46 = dktX12_clearParts_2 := dk_seg dksX12_clearParts_1 24 rfl rfl
theorem dX12_clearParts_0 : decode cX12_clearParts 0 = .ok (.iconst 0, 1) := dk_3 (dk_at dksX12_clearParts_0 0 rfl rfl)
theorem dX12_clearParts_1 : decode cX12_clearParts 1 = .ok (.istore_n 1, 1) := dk_60 (dk_at dksX12_clearParts_0 1 rfl rfl)
theorem dX12_clearParts_2 : decode cX12_clearParts 2 = .ok (.iload_n 1, 1) := dk_27 (dk_at dksX12_clearParts_0 2 rfl rfl)
theorem dX12_clearParts_3 : decode cX12_clearParts 3 = .ok (.bipush 16, 2) := dk_16 16 (dk_at dksX12_clearParts_0 3 rfl rfl)
theorem dX12_clearParts_5 : decode cX12_clearParts 5 = .ok (.if_icmp .ge 23, 3) := dk_162 0 23 (dk_at dksX12_clearParts_0 5 rfl rfl)
theorem dX12_clearParts_8 : decode cX12_clearParts 8 = .ok (.aload_n 0, 1) := dk_42 (dk_at dksX12_clearParts_0 8 rfl rfl)
theorem dX12_clearParts_9 : decode cX12_clearParts 9 = .ok (.getfield 38, 3) := dk_180 0 38 (dk_at dksX12_clearParts_0 9 rfl rfl)
theorem dX12_clearParts_12 : decode cX12_clearParts 12 = .ok (.iload_n 1, 1) := dk_27 (dk_at dksX12_clearParts_0 12 rfl rfl)
theorem dX12_clearParts_13 : decode cX12_clearParts 13 = .ok (.iconst (-1), 1) := dk_2 (dk_at dksX12_clearParts_0 13 rfl rfl)
theorem dX12_clearParts_14 : decode cX12_clearParts 14 = .ok (.iastore, 1) := dk_79 (dk_at dksX12_clearParts_0 14 rfl rfl)
theorem dX12_clearParts_15 : decode cX12_clearParts 15 = .ok (.aload_n 0, 1) := dk_42 (dk_at dksX12_clearParts_0 15 rfl rfl)
theorem dX12_clearParts_16 : decode cX12_clearParts 16 = .ok (.getfield 42, 3) := dk_180 0 42 (dk_at dksX12_clearParts_0 16 rfl rfl)
theorem dX12_clearParts_19 : decode cX12_clearParts 19 = .ok (.iload_n 1, 1) := dk_27 (dk_at dksX12_clearParts_0 19 rfl rfl)
theorem dX12_clearParts_20 : decode cX12_clearParts 20 = .ok (.iconst (-1), 1) := dk_2 (dk_at dksX12_clearParts_0 20 rfl rfl)
theorem dX12_clearParts_21 : decode cX12_clearParts 21 = .ok (.iastore, 1) := dk_79 (dk_at dksX12_clearParts_0 21 rfl rfl)
theorem dX12_clearParts_22 : decode cX12_clearParts 22 = .ok (.iinc 1 1, 3) := dk_132 1 1 (dk_at dksX12_clearParts_1 0 rfl rfl)
theorem dX12_clearParts_25 : decode cX12_clearParts 25 = .ok (.goto (-23), 3) := dk_167 255 233 (dk_at dksX12_clearParts_1 3 rfl rfl)
theorem dX12_clearParts_28 : decode cX12_clearParts 28 = .ok (.iconst 0, 1) := dk_3 (dk_at dksX12_clearParts_1 6 rfl rfl)
theorem dX12_clearParts_29 : decode cX12_clearParts 29 = .ok (.istore_n 1, 1) := dk_60 (dk_at dksX12_clearParts_1 7 rfl rfl)
theorem dX12_clearParts_30 : decode cX12_clearParts 30 = .ok (.iload_n 1, 1) := dk_27 (dk_at dksX12_clearParts_1 8 rfl rfl)
theorem dX12_clearParts_31 : decode cX12_clearParts 31 = .ok (.bipush 8, 2) := dk_16 8 (dk_at dksX12_clearParts_1 9 rfl rfl)
theorem dX12_clearParts_33 : decode cX12_clearParts 33 = .ok (.if_icmp .ge 16, 3) := dk_162 0 16 (dk_at dksX12_clearParts_1 11 rfl rfl)
theorem dX12_clearParts_36 : decode cX12_clearParts 36 = .ok (.aload_n 0, 1) := dk_42 (dk_at dksX12_clearParts_1 14 rfl rfl)
theorem dX12_clearParts_37 : decode cX12_clearParts 37 = .ok (.getfield 45, 3) := dk_180 0 45 (dk_at dksX12_clearParts_1 15 rfl rfl)
theorem dX12_clearParts_40 : decode cX12_clearParts 40 = .ok (.iload_n 1, 1) := dk_27 (dk_at dksX12_clearParts_1 18 rfl rfl)
theorem dX12_clearParts_41 : decode cX12_clearParts 41 = .ok (.iconst (-1), 1) := dk_2 (dk_at dksX12_clearParts_1 19 rfl rfl)
theorem dX12_clearParts_42 : decode cX12_clearParts 42 = .ok (.iastore, 1) := dk_79 (dk_at dksX12_clearParts_1 20 rfl rfl)
theorem dX12_clearParts_43 : decode cX12_clearParts 43 = .ok (.iinc 1 1, 3) := dk_132 1 1 (dk_at dksX12_clearParts_1 21 rfl rfl)
theorem dX12_clearParts_46 : decode cX12_clearParts 46 = .ok (.goto (-16), 3) := dk_167 255 240 (dk_at dksX12_clearParts_2 0 rfl rfl)
theorem dX12_clearParts_49 : decode cX12_clearParts 49 = .ok (.return_, 1) := dk_177 (dk_at dksX12_clearParts_2 3 rfl rfl)
abbrev cX12_unit : ByteArray := prog_19_method_2_code
def yX12_unit : MethodName := ⟨RX12, "unit", "(I)Z"⟩
def dkwX12_unit_2 : List UInt8 := [145, 84, 4, 172]
abbrev dktX12_unit_2 : List UInt8 := dkwX12_unit_2 ++ []
def dkwX12_unit_1 : List UInt8 := [3, 172, 42, 180, 0, 10, 180, 0, 71, 42, 180, 0, 10, 89, 180, 0, 68, 90, 4, 96, 181, 0, 68, 27]
abbrev dktX12_unit_1 : List UInt8 := dkwX12_unit_1 ++ dktX12_unit_2
def dkwX12_unit_0 : List UInt8 := [27, 155, 0, 23, 27, 17, 0, 255, 163, 0, 16, 42, 180, 0, 10, 180, 0, 68, 17, 11, 184, 160, 0, 5]
abbrev dktX12_unit_0 : List UInt8 := dkwX12_unit_0 ++ dktX12_unit_1
theorem dksX12_unit_0 : cX12_unit.data.toList.drop 0 = dktX12_unit_0 := by decide +kernel
theorem dksX12_unit_1 : cX12_unit.data.toList.drop 24 = dktX12_unit_1 := dk_seg dksX12_unit_0 24 rfl rfl
theorem dksX12_unit_2 : cX12_unit.data.toList.drop 48 = dktX12_unit_2 := dk_seg dksX12_unit_1 24 rfl rfl
theorem dX12_unit_0 : decode cX12_unit 0 = .ok (.iload_n 1, 1) := dk_27 (dk_at dksX12_unit_0 0 rfl rfl)
theorem dX12_unit_1 : decode cX12_unit 1 = .ok (.ifCond .lt 23, 3) := dk_155 0 23 (dk_at dksX12_unit_0 1 rfl rfl)
theorem dX12_unit_4 : decode cX12_unit 4 = .ok (.iload_n 1, 1) := dk_27 (dk_at dksX12_unit_0 4 rfl rfl)
theorem dX12_unit_5 : decode cX12_unit 5 = .ok (.sipush 255, 3) := dk_17 0 255 (dk_at dksX12_unit_0 5 rfl rfl)
theorem dX12_unit_8 : decode cX12_unit 8 = .ok (.if_icmp .gt 16, 3) := dk_163 0 16 (dk_at dksX12_unit_0 8 rfl rfl)
theorem dX12_unit_11 : decode cX12_unit 11 = .ok (.aload_n 0, 1) := dk_42 (dk_at dksX12_unit_0 11 rfl rfl)
theorem dX12_unit_12 : decode cX12_unit 12 = .ok (.getfield 10, 3) := dk_180 0 10 (dk_at dksX12_unit_0 12 rfl rfl)
theorem dX12_unit_15 : decode cX12_unit 15 = .ok (.getfield 68, 3) := dk_180 0 68 (dk_at dksX12_unit_0 15 rfl rfl)
theorem dX12_unit_18 : decode cX12_unit 18 = .ok (.sipush 3000, 3) := dk_17 11 184 (dk_at dksX12_unit_0 18 rfl rfl)
theorem dX12_unit_21 : decode cX12_unit 21 = .ok (.if_icmp .ne 5, 3) := dk_160 0 5 (dk_at dksX12_unit_0 21 rfl rfl)
theorem dX12_unit_24 : decode cX12_unit 24 = .ok (.iconst 0, 1) := dk_3 (dk_at dksX12_unit_1 0 rfl rfl)
theorem dX12_unit_25 : decode cX12_unit 25 = .ok (.ireturn, 1) := dk_172 (dk_at dksX12_unit_1 1 rfl rfl)
theorem dX12_unit_26 : decode cX12_unit 26 = .ok (.aload_n 0, 1) := dk_42 (dk_at dksX12_unit_1 2 rfl rfl)
theorem dX12_unit_27 : decode cX12_unit 27 = .ok (.getfield 10, 3) := dk_180 0 10 (dk_at dksX12_unit_1 3 rfl rfl)
theorem dX12_unit_30 : decode cX12_unit 30 = .ok (.getfield 71, 3) := dk_180 0 71 (dk_at dksX12_unit_1 6 rfl rfl)
theorem dX12_unit_33 : decode cX12_unit 33 = .ok (.aload_n 0, 1) := dk_42 (dk_at dksX12_unit_1 9 rfl rfl)
theorem dX12_unit_34 : decode cX12_unit 34 = .ok (.getfield 10, 3) := dk_180 0 10 (dk_at dksX12_unit_1 10 rfl rfl)
theorem dX12_unit_37 : decode cX12_unit 37 = .ok (.dup, 1) := dk_89 (dk_at dksX12_unit_1 13 rfl rfl)
theorem dX12_unit_38 : decode cX12_unit 38 = .ok (.getfield 68, 3) := dk_180 0 68 (dk_at dksX12_unit_1 14 rfl rfl)
theorem dX12_unit_41 : decode cX12_unit 41 = .ok (.dup_x1, 1) := dk_90 (dk_at dksX12_unit_1 17 rfl rfl)
theorem dX12_unit_42 : decode cX12_unit 42 = .ok (.iconst 1, 1) := dk_4 (dk_at dksX12_unit_1 18 rfl rfl)
theorem dX12_unit_43 : decode cX12_unit 43 = .ok (.iadd, 1) := dk_96 (dk_at dksX12_unit_1 19 rfl rfl)
theorem dX12_unit_44 : decode cX12_unit 44 = .ok (.putfield 68, 3) := dk_181 0 68 (dk_at dksX12_unit_1 20 rfl rfl)
theorem dX12_unit_47 : decode cX12_unit 47 = .ok (.iload_n 1, 1) := dk_27 (dk_at dksX12_unit_1 23 rfl rfl)
theorem dX12_unit_48 : decode cX12_unit 48 = .ok (.i2b, 1) := dk_145 (dk_at dksX12_unit_2 0 rfl rfl)
theorem dX12_unit_49 : decode cX12_unit 49 = .ok (.bastore, 1) := dk_84 (dk_at dksX12_unit_2 1 rfl rfl)
theorem dX12_unit_50 : decode cX12_unit 50 = .ok (.iconst 1, 1) := dk_4 (dk_at dksX12_unit_2 2 rfl rfl)
theorem dX12_unit_51 : decode cX12_unit 51 = .ok (.ireturn, 1) := dk_172 (dk_at dksX12_unit_2 3 rfl rfl)
abbrev cX12_read : ByteArray := prog_19_method_3_code
def yX12_read : MethodName := ⟨RX12, "read", "()I"⟩
def dkwX12_read_3 : List UInt8 := [180, 0, 95, 167, 0, 12, 2, 42, 180, 0, 34, 180, 0, 98, 100, 172]
abbrev dktX12_read_3 : List UInt8 := dkwX12_read_3 ++ []
def dkwX12_read_2 : List UInt8 := [181, 0, 89, 42, 3, 181, 0, 92, 42, 180, 0, 10, 3, 181, 0, 68, 27, 153, 0, 13, 42, 180, 0, 26]
abbrev dktX12_read_2 : List UInt8 := dkwX12_read_2 ++ dktX12_read_3
def dkwX12_read_1 : List UInt8 := [180, 0, 10, 182, 0, 82, 42, 180, 0, 26, 42, 180, 0, 22, 182, 0, 86, 42, 2, 181, 0, 58, 42, 3]
abbrev dktX12_read_1 : List UInt8 := dkwX12_read_1 ++ dktX12_read_2
def dkwX12_read_0 : List UInt8 := [42, 180, 0, 10, 182, 0, 75, 42, 180, 0, 34, 182, 0, 78, 60, 27, 153, 0, 40, 42, 180, 0, 16, 42]
abbrev dktX12_read_0 : List UInt8 := dkwX12_read_0 ++ dktX12_read_1
theorem dksX12_read_0 : cX12_read.data.toList.drop 0 = dktX12_read_0 := by decide +kernel
theorem dksX12_read_1 : cX12_read.data.toList.drop 24 = dktX12_read_1 := dk_seg dksX12_read_0 24 rfl rfl
theorem dksX12_read_2 : cX12_read.data.toList.drop 48 = dktX12_read_2 := dk_seg dksX12_read_1 24 rfl rfl
theorem dksX12_read_3 : cX12_read.data.toList.drop 72 = dktX12_read_3 := dk_seg dksX12_read_2 24 rfl rfl
theorem dX12_read_0 : decode cX12_read 0 = .ok (.aload_n 0, 1) := dk_42 (dk_at dksX12_read_0 0 rfl rfl)
theorem dX12_read_1 : decode cX12_read 1 = .ok (.getfield 10, 3) := dk_180 0 10 (dk_at dksX12_read_0 1 rfl rfl)
theorem dX12_read_4 : decode cX12_read 4 = .ok (.invokevirtual 75, 3) := dk_182 0 75 (dk_at dksX12_read_0 4 rfl rfl)
theorem dX12_read_7 : decode cX12_read 7 = .ok (.aload_n 0, 1) := dk_42 (dk_at dksX12_read_0 7 rfl rfl)
theorem dX12_read_8 : decode cX12_read 8 = .ok (.getfield 34, 3) := dk_180 0 34 (dk_at dksX12_read_0 8 rfl rfl)
theorem dX12_read_11 : decode cX12_read 11 = .ok (.invokevirtual 78, 3) := dk_182 0 78 (dk_at dksX12_read_0 11 rfl rfl)
theorem dX12_read_14 : decode cX12_read 14 = .ok (.istore_n 1, 1) := dk_60 (dk_at dksX12_read_0 14 rfl rfl)
theorem dX12_read_15 : decode cX12_read 15 = .ok (.iload_n 1, 1) := dk_27 (dk_at dksX12_read_0 15 rfl rfl)
theorem dX12_read_16 : decode cX12_read 16 = .ok (.ifCond .eq 40, 3) := dk_153 0 40 (dk_at dksX12_read_0 16 rfl rfl)
theorem dX12_read_19 : decode cX12_read 19 = .ok (.aload_n 0, 1) := dk_42 (dk_at dksX12_read_0 19 rfl rfl)
theorem dX12_read_20 : decode cX12_read 20 = .ok (.getfield 16, 3) := dk_180 0 16 (dk_at dksX12_read_0 20 rfl rfl)
theorem dX12_read_23 : decode cX12_read 23 = .ok (.aload_n 0, 1) := dk_42 (dk_at dksX12_read_0 23 rfl rfl)
theorem dX12_read_24 : decode cX12_read 24 = .ok (.getfield 10, 3) := dk_180 0 10 (dk_at dksX12_read_1 0 rfl rfl)
theorem dX12_read_27 : decode cX12_read 27 = .ok (.invokevirtual 82, 3) := dk_182 0 82 (dk_at dksX12_read_1 3 rfl rfl)
theorem dX12_read_30 : decode cX12_read 30 = .ok (.aload_n 0, 1) := dk_42 (dk_at dksX12_read_1 6 rfl rfl)
theorem dX12_read_31 : decode cX12_read 31 = .ok (.getfield 26, 3) := dk_180 0 26 (dk_at dksX12_read_1 7 rfl rfl)
theorem dX12_read_34 : decode cX12_read 34 = .ok (.aload_n 0, 1) := dk_42 (dk_at dksX12_read_1 10 rfl rfl)
theorem dX12_read_35 : decode cX12_read 35 = .ok (.getfield 22, 3) := dk_180 0 22 (dk_at dksX12_read_1 11 rfl rfl)
theorem dX12_read_38 : decode cX12_read 38 = .ok (.invokevirtual 86, 3) := dk_182 0 86 (dk_at dksX12_read_1 14 rfl rfl)
theorem dX12_read_41 : decode cX12_read 41 = .ok (.aload_n 0, 1) := dk_42 (dk_at dksX12_read_1 17 rfl rfl)
theorem dX12_read_42 : decode cX12_read 42 = .ok (.iconst (-1), 1) := dk_2 (dk_at dksX12_read_1 18 rfl rfl)
theorem dX12_read_43 : decode cX12_read 43 = .ok (.putfield 58, 3) := dk_181 0 58 (dk_at dksX12_read_1 19 rfl rfl)
theorem dX12_read_46 : decode cX12_read 46 = .ok (.aload_n 0, 1) := dk_42 (dk_at dksX12_read_1 22 rfl rfl)
theorem dX12_read_47 : decode cX12_read 47 = .ok (.iconst 0, 1) := dk_3 (dk_at dksX12_read_1 23 rfl rfl)
theorem dX12_read_48 : decode cX12_read 48 = .ok (.putfield 89, 3) := dk_181 0 89 (dk_at dksX12_read_2 0 rfl rfl)
theorem dX12_read_51 : decode cX12_read 51 = .ok (.aload_n 0, 1) := dk_42 (dk_at dksX12_read_2 3 rfl rfl)
theorem dX12_read_52 : decode cX12_read 52 = .ok (.iconst 0, 1) := dk_3 (dk_at dksX12_read_2 4 rfl rfl)
theorem dX12_read_53 : decode cX12_read 53 = .ok (.putfield 92, 3) := dk_181 0 92 (dk_at dksX12_read_2 5 rfl rfl)
theorem dX12_read_56 : decode cX12_read 56 = .ok (.aload_n 0, 1) := dk_42 (dk_at dksX12_read_2 8 rfl rfl)
theorem dX12_read_57 : decode cX12_read 57 = .ok (.getfield 10, 3) := dk_180 0 10 (dk_at dksX12_read_2 9 rfl rfl)
theorem dX12_read_60 : decode cX12_read 60 = .ok (.iconst 0, 1) := dk_3 (dk_at dksX12_read_2 12 rfl rfl)
theorem dX12_read_61 : decode cX12_read 61 = .ok (.putfield 68, 3) := dk_181 0 68 (dk_at dksX12_read_2 13 rfl rfl)
theorem dX12_read_64 : decode cX12_read 64 = .ok (.iload_n 1, 1) := dk_27 (dk_at dksX12_read_2 16 rfl rfl)
theorem dX12_read_65 : decode cX12_read 65 = .ok (.ifCond .eq 13, 3) := dk_153 0 13 (dk_at dksX12_read_2 17 rfl rfl)
theorem dX12_read_68 : decode cX12_read 68 = .ok (.aload_n 0, 1) := dk_42 (dk_at dksX12_read_2 20 rfl rfl)
theorem dX12_read_69 : decode cX12_read 69 = .ok (.getfield 26, 3) := dk_180 0 26 (dk_at dksX12_read_2 21 rfl rfl)
theorem dX12_read_72 : decode cX12_read 72 = .ok (.getfield 95, 3) := dk_180 0 95 (dk_at dksX12_read_3 0 rfl rfl)
theorem dX12_read_75 : decode cX12_read 75 = .ok (.goto 12, 3) := dk_167 0 12 (dk_at dksX12_read_3 3 rfl rfl)
theorem dX12_read_78 : decode cX12_read 78 = .ok (.iconst (-1), 1) := dk_2 (dk_at dksX12_read_3 6 rfl rfl)
theorem dX12_read_79 : decode cX12_read 79 = .ok (.aload_n 0, 1) := dk_42 (dk_at dksX12_read_3 7 rfl rfl)
theorem dX12_read_80 : decode cX12_read 80 = .ok (.getfield 34, 3) := dk_180 0 34 (dk_at dksX12_read_3 8 rfl rfl)
theorem dX12_read_83 : decode cX12_read 83 = .ok (.getfield 98, 3) := dk_180 0 98 (dk_at dksX12_read_3 11 rfl rfl)
theorem dX12_read_86 : decode cX12_read 86 = .ok (.isub, 1) := dk_100 (dk_at dksX12_read_3 14 rfl rfl)
theorem dX12_read_87 : decode cX12_read 87 = .ok (.ireturn, 1) := dk_172 (dk_at dksX12_read_3 15 rfl rfl)
abbrev cX12_edition : ByteArray := prog_19_method_4_code
def yX12_edition : MethodName := ⟨RX12, "edition", "(J)I"⟩
def dkwX12_edition_1 : List UInt8 := [21, 4, 46, 133, 31, 148, 157, 0, 8, 21, 4, 167, 0, 4, 29, 62, 132, 4, 1, 167, 255, 218, 29, 172]
abbrev dktX12_edition_1 : List UInt8 := dkwX12_edition_1 ++ []
def dkwX12_edition_0 : List UInt8 := [2, 62, 3, 54, 4, 21, 4, 42, 180, 0, 26, 180, 0, 101, 162, 0, 32, 42, 180, 0, 26, 180, 0, 104]
abbrev dktX12_edition_0 : List UInt8 := dkwX12_edition_0 ++ dktX12_edition_1
theorem dksX12_edition_0 : cX12_edition.data.toList.drop 0 = dktX12_edition_0 := by decide +kernel
theorem dksX12_edition_1 : cX12_edition.data.toList.drop 24 = dktX12_edition_1 := dk_seg dksX12_edition_0 24 rfl rfl
theorem dX12_edition_0 : decode cX12_edition 0 = .ok (.iconst (-1), 1) := dk_2 (dk_at dksX12_edition_0 0 rfl rfl)
theorem dX12_edition_1 : decode cX12_edition 1 = .ok (.istore_n 3, 1) := dk_62 (dk_at dksX12_edition_0 1 rfl rfl)
theorem dX12_edition_2 : decode cX12_edition 2 = .ok (.iconst 0, 1) := dk_3 (dk_at dksX12_edition_0 2 rfl rfl)
theorem dX12_edition_3 : decode cX12_edition 3 = .ok (.istore 4, 2) := dk_54 4 (dk_at dksX12_edition_0 3 rfl rfl)
theorem dX12_edition_5 : decode cX12_edition 5 = .ok (.iload 4, 2) := dk_21 4 (dk_at dksX12_edition_0 5 rfl rfl)
theorem dX12_edition_7 : decode cX12_edition 7 = .ok (.aload_n 0, 1) := dk_42 (dk_at dksX12_edition_0 7 rfl rfl)
theorem dX12_edition_8 : decode cX12_edition 8 = .ok (.getfield 26, 3) := dk_180 0 26 (dk_at dksX12_edition_0 8 rfl rfl)
theorem dX12_edition_11 : decode cX12_edition 11 = .ok (.getfield 101, 3) := dk_180 0 101 (dk_at dksX12_edition_0 11 rfl rfl)
theorem dX12_edition_14 : decode cX12_edition 14 = .ok (.if_icmp .ge 32, 3) := dk_162 0 32 (dk_at dksX12_edition_0 14 rfl rfl)
theorem dX12_edition_17 : decode cX12_edition 17 = .ok (.aload_n 0, 1) := dk_42 (dk_at dksX12_edition_0 17 rfl rfl)
theorem dX12_edition_18 : decode cX12_edition 18 = .ok (.getfield 26, 3) := dk_180 0 26 (dk_at dksX12_edition_0 18 rfl rfl)
theorem dX12_edition_21 : decode cX12_edition 21 = .ok (.getfield 104, 3) := dk_180 0 104 (dk_at dksX12_edition_0 21 rfl rfl)
theorem dX12_edition_24 : decode cX12_edition 24 = .ok (.iload 4, 2) := dk_21 4 (dk_at dksX12_edition_1 0 rfl rfl)
theorem dX12_edition_26 : decode cX12_edition 26 = .ok (.iaload, 1) := dk_46 (dk_at dksX12_edition_1 2 rfl rfl)
theorem dX12_edition_27 : decode cX12_edition 27 = .ok (.i2l, 1) := dk_133 (dk_at dksX12_edition_1 3 rfl rfl)
theorem dX12_edition_28 : decode cX12_edition 28 = .ok (.lload_n 1, 1) := dk_31 (dk_at dksX12_edition_1 4 rfl rfl)
theorem dX12_edition_29 : decode cX12_edition 29 = .ok (.lcmp, 1) := dk_148 (dk_at dksX12_edition_1 5 rfl rfl)
theorem dX12_edition_30 : decode cX12_edition 30 = .ok (.ifCond .gt 8, 3) := dk_157 0 8 (dk_at dksX12_edition_1 6 rfl rfl)
theorem dX12_edition_33 : decode cX12_edition 33 = .ok (.iload 4, 2) := dk_21 4 (dk_at dksX12_edition_1 9 rfl rfl)
theorem dX12_edition_35 : decode cX12_edition 35 = .ok (.goto 4, 3) := dk_167 0 4 (dk_at dksX12_edition_1 11 rfl rfl)
theorem dX12_edition_38 : decode cX12_edition 38 = .ok (.iload_n 3, 1) := dk_29 (dk_at dksX12_edition_1 14 rfl rfl)
theorem dX12_edition_39 : decode cX12_edition 39 = .ok (.istore_n 3, 1) := dk_62 (dk_at dksX12_edition_1 15 rfl rfl)
theorem dX12_edition_40 : decode cX12_edition 40 = .ok (.iinc 4 1, 3) := dk_132 4 1 (dk_at dksX12_edition_1 16 rfl rfl)
theorem dX12_edition_43 : decode cX12_edition 43 = .ok (.goto (-38), 3) := dk_167 255 218 (dk_at dksX12_edition_1 19 rfl rfl)
theorem dX12_edition_46 : decode cX12_edition 46 = .ok (.iload_n 3, 1) := dk_29 (dk_at dksX12_edition_1 22 rfl rfl)
theorem dX12_edition_47 : decode cX12_edition 47 = .ok (.ireturn, 1) := dk_172 (dk_at dksX12_edition_1 23 rfl rfl)
abbrev cX12_part : ByteArray := prog_19_method_5_code
def yX12_part : MethodName := ⟨RX12, "part", "(IJJ)Z"⟩
def dkwX12_part_2 : List UInt8 := [22, 4, 136, 79, 4, 172]
abbrev dktX12_part_2 : List UInt8 := dkwX12_part_2 ++ []
def dkwX12_part_1 : List UInt8 := [22, 4, 20, 0, 107, 148, 158, 0, 5, 3, 172, 42, 180, 0, 38, 27, 32, 136, 79, 42, 180, 0, 42, 27]
abbrev dktX12_part_1 : List UInt8 := dkwX12_part_1 ++ dktX12_part_2
def dkwX12_part_0 : List UInt8 := [27, 155, 0, 31, 27, 16, 16, 162, 0, 25, 32, 9, 148, 155, 0, 19, 32, 22, 4, 148, 157, 0, 12]
abbrev dktX12_part_0 : List UInt8 := dkwX12_part_0 ++ dktX12_part_1
theorem dksX12_part_0 : cX12_part.data.toList.drop 0 = dktX12_part_0 := by decide +kernel
theorem dksX12_part_1 : cX12_part.data.toList.drop 23 = dktX12_part_1 := dk_seg dksX12_part_0 23 rfl rfl
theorem dksX12_part_2 : cX12_part.data.toList.drop 47 = dktX12_part_2 := dk_seg dksX12_part_1 24 rfl rfl
theorem dX12_part_0 : decode cX12_part 0 = .ok (.iload_n 1, 1) := dk_27 (dk_at dksX12_part_0 0 rfl rfl)
theorem dX12_part_1 : decode cX12_part 1 = .ok (.ifCond .lt 31, 3) := dk_155 0 31 (dk_at dksX12_part_0 1 rfl rfl)
theorem dX12_part_4 : decode cX12_part 4 = .ok (.iload_n 1, 1) := dk_27 (dk_at dksX12_part_0 4 rfl rfl)
theorem dX12_part_5 : decode cX12_part 5 = .ok (.bipush 16, 2) := dk_16 16 (dk_at dksX12_part_0 5 rfl rfl)
theorem dX12_part_7 : decode cX12_part 7 = .ok (.if_icmp .ge 25, 3) := dk_162 0 25 (dk_at dksX12_part_0 7 rfl rfl)
theorem dX12_part_10 : decode cX12_part 10 = .ok (.lload_n 2, 1) := dk_32 (dk_at dksX12_part_0 10 rfl rfl)
theorem dX12_part_11 : decode cX12_part 11 = .ok (.lconst 0, 1) := dk_9 (dk_at dksX12_part_0 11 rfl rfl)
theorem dX12_part_12 : decode cX12_part 12 = .ok (.lcmp, 1) := dk_148 (dk_at dksX12_part_0 12 rfl rfl)
theorem dX12_part_13 : decode cX12_part 13 = .ok (.ifCond .lt 19, 3) := dk_155 0 19 (dk_at dksX12_part_0 13 rfl rfl)
theorem dX12_part_16 : decode cX12_part 16 = .ok (.lload_n 2, 1) := dk_32 (dk_at dksX12_part_0 16 rfl rfl)
theorem dX12_part_17 : decode cX12_part 17 = .ok (.lload 4, 2) := dk_22 4 (dk_at dksX12_part_0 17 rfl rfl)
theorem dX12_part_19 : decode cX12_part 19 = .ok (.lcmp, 1) := dk_148 (dk_at dksX12_part_0 19 rfl rfl)
theorem dX12_part_20 : decode cX12_part 20 = .ok (.ifCond .gt 12, 3) := dk_157 0 12 (dk_at dksX12_part_0 20 rfl rfl)
theorem dX12_part_23 : decode cX12_part 23 = .ok (.lload 4, 2) := dk_22 4 (dk_at dksX12_part_1 0 rfl rfl)
theorem dX12_part_25 : decode cX12_part 25 = .ok (.ldc2_w 107, 3) := dk_20 0 107 (dk_at dksX12_part_1 2 rfl rfl)
theorem dX12_part_28 : decode cX12_part 28 = .ok (.lcmp, 1) := dk_148 (dk_at dksX12_part_1 5 rfl rfl)
theorem dX12_part_29 : decode cX12_part 29 = .ok (.ifCond .le 5, 3) := dk_158 0 5 (dk_at dksX12_part_1 6 rfl rfl)
theorem dX12_part_32 : decode cX12_part 32 = .ok (.iconst 0, 1) := dk_3 (dk_at dksX12_part_1 9 rfl rfl)
theorem dX12_part_33 : decode cX12_part 33 = .ok (.ireturn, 1) := dk_172 (dk_at dksX12_part_1 10 rfl rfl)
theorem dX12_part_34 : decode cX12_part 34 = .ok (.aload_n 0, 1) := dk_42 (dk_at dksX12_part_1 11 rfl rfl)
theorem dX12_part_35 : decode cX12_part 35 = .ok (.getfield 38, 3) := dk_180 0 38 (dk_at dksX12_part_1 12 rfl rfl)
theorem dX12_part_38 : decode cX12_part 38 = .ok (.iload_n 1, 1) := dk_27 (dk_at dksX12_part_1 15 rfl rfl)
theorem dX12_part_39 : decode cX12_part 39 = .ok (.lload_n 2, 1) := dk_32 (dk_at dksX12_part_1 16 rfl rfl)
theorem dX12_part_40 : decode cX12_part 40 = .ok (.l2i, 1) := dk_136 (dk_at dksX12_part_1 17 rfl rfl)
theorem dX12_part_41 : decode cX12_part 41 = .ok (.iastore, 1) := dk_79 (dk_at dksX12_part_1 18 rfl rfl)
theorem dX12_part_42 : decode cX12_part 42 = .ok (.aload_n 0, 1) := dk_42 (dk_at dksX12_part_1 19 rfl rfl)
theorem dX12_part_43 : decode cX12_part 43 = .ok (.getfield 42, 3) := dk_180 0 42 (dk_at dksX12_part_1 20 rfl rfl)
theorem dX12_part_46 : decode cX12_part 46 = .ok (.iload_n 1, 1) := dk_27 (dk_at dksX12_part_1 23 rfl rfl)
theorem dX12_part_47 : decode cX12_part 47 = .ok (.lload 4, 2) := dk_22 4 (dk_at dksX12_part_2 0 rfl rfl)
theorem dX12_part_49 : decode cX12_part 49 = .ok (.l2i, 1) := dk_136 (dk_at dksX12_part_2 2 rfl rfl)
theorem dX12_part_50 : decode cX12_part 50 = .ok (.iastore, 1) := dk_79 (dk_at dksX12_part_2 3 rfl rfl)
theorem dX12_part_51 : decode cX12_part 51 = .ok (.iconst 1, 1) := dk_4 (dk_at dksX12_part_2 4 rfl rfl)
theorem dX12_part_52 : decode cX12_part 52 = .ok (.ireturn, 1) := dk_172 (dk_at dksX12_part_2 5 rfl rfl)
abbrev cX12_test : ByteArray := prog_19_method_6_code
def yX12_test : MethodName := ⟨RX12, "test", "(II)Z"⟩
def dkwX12_test_1 : List UInt8 := [180, 0, 45, 27, 28, 79, 4, 172]
abbrev dktX12_test_1 : List UInt8 := dkwX12_test_1 ++ []
def dkwX12_test_0 : List UInt8 := [27, 155, 0, 20, 27, 16, 8, 162, 0, 14, 28, 2, 161, 0, 9, 28, 16, 9, 164, 0, 5, 3, 172, 42]
abbrev dktX12_test_0 : List UInt8 := dkwX12_test_0 ++ dktX12_test_1
theorem dksX12_test_0 : cX12_test.data.toList.drop 0 = dktX12_test_0 := by decide +kernel
theorem dksX12_test_1 : cX12_test.data.toList.drop 24 = dktX12_test_1 := dk_seg dksX12_test_0 24 rfl rfl
theorem dX12_test_0 : decode cX12_test 0 = .ok (.iload_n 1, 1) := dk_27 (dk_at dksX12_test_0 0 rfl rfl)
theorem dX12_test_1 : decode cX12_test 1 = .ok (.ifCond .lt 20, 3) := dk_155 0 20 (dk_at dksX12_test_0 1 rfl rfl)
theorem dX12_test_4 : decode cX12_test 4 = .ok (.iload_n 1, 1) := dk_27 (dk_at dksX12_test_0 4 rfl rfl)
theorem dX12_test_5 : decode cX12_test 5 = .ok (.bipush 8, 2) := dk_16 8 (dk_at dksX12_test_0 5 rfl rfl)
theorem dX12_test_7 : decode cX12_test 7 = .ok (.if_icmp .ge 14, 3) := dk_162 0 14 (dk_at dksX12_test_0 7 rfl rfl)
theorem dX12_test_10 : decode cX12_test 10 = .ok (.iload_n 2, 1) := dk_28 (dk_at dksX12_test_0 10 rfl rfl)
theorem dX12_test_11 : decode cX12_test 11 = .ok (.iconst (-1), 1) := dk_2 (dk_at dksX12_test_0 11 rfl rfl)
theorem dX12_test_12 : decode cX12_test 12 = .ok (.if_icmp .lt 9, 3) := dk_161 0 9 (dk_at dksX12_test_0 12 rfl rfl)
theorem dX12_test_15 : decode cX12_test 15 = .ok (.iload_n 2, 1) := dk_28 (dk_at dksX12_test_0 15 rfl rfl)
theorem dX12_test_16 : decode cX12_test 16 = .ok (.bipush 9, 2) := dk_16 9 (dk_at dksX12_test_0 16 rfl rfl)
theorem dX12_test_18 : decode cX12_test 18 = .ok (.if_icmp .le 5, 3) := dk_164 0 5 (dk_at dksX12_test_0 18 rfl rfl)
theorem dX12_test_21 : decode cX12_test 21 = .ok (.iconst 0, 1) := dk_3 (dk_at dksX12_test_0 21 rfl rfl)
theorem dX12_test_22 : decode cX12_test 22 = .ok (.ireturn, 1) := dk_172 (dk_at dksX12_test_0 22 rfl rfl)
theorem dX12_test_23 : decode cX12_test 23 = .ok (.aload_n 0, 1) := dk_42 (dk_at dksX12_test_0 23 rfl rfl)
theorem dX12_test_24 : decode cX12_test 24 = .ok (.getfield 45, 3) := dk_180 0 45 (dk_at dksX12_test_1 0 rfl rfl)
theorem dX12_test_27 : decode cX12_test 27 = .ok (.iload_n 1, 1) := dk_27 (dk_at dksX12_test_1 3 rfl rfl)
theorem dX12_test_28 : decode cX12_test 28 = .ok (.iload_n 2, 1) := dk_28 (dk_at dksX12_test_1 4 rfl rfl)
theorem dX12_test_29 : decode cX12_test 29 = .ok (.iastore, 1) := dk_79 (dk_at dksX12_test_1 5 rfl rfl)
theorem dX12_test_30 : decode cX12_test 30 = .ok (.iconst 1, 1) := dk_4 (dk_at dksX12_test_1 6 rfl rfl)
theorem dX12_test_31 : decode cX12_test 31 = .ok (.ireturn, 1) := dk_172 (dk_at dksX12_test_1 7 rfl rfl)
abbrev cX12_way : ByteArray := prog_19_method_8_code
def yX12_way : MethodName := ⟨RX12, "way", "(Z)Z"⟩
def dkwX12_way_0 : List UInt8 := [42, 180, 0, 48, 61, 42, 27, 181, 0, 48, 28, 172]
abbrev dktX12_way_0 : List UInt8 := dkwX12_way_0 ++ []
theorem dksX12_way_0 : cX12_way.data.toList.drop 0 = dktX12_way_0 := by decide +kernel
theorem dX12_way_0 : decode cX12_way 0 = .ok (.aload_n 0, 1) := dk_42 (dk_at dksX12_way_0 0 rfl rfl)
theorem dX12_way_1 : decode cX12_way 1 = .ok (.getfield 48, 3) := dk_180 0 48 (dk_at dksX12_way_0 1 rfl rfl)
theorem dX12_way_4 : decode cX12_way 4 = .ok (.istore_n 2, 1) := dk_61 (dk_at dksX12_way_0 4 rfl rfl)
theorem dX12_way_5 : decode cX12_way 5 = .ok (.aload_n 0, 1) := dk_42 (dk_at dksX12_way_0 5 rfl rfl)
theorem dX12_way_6 : decode cX12_way 6 = .ok (.iload_n 1, 1) := dk_27 (dk_at dksX12_way_0 6 rfl rfl)
theorem dX12_way_7 : decode cX12_way 7 = .ok (.putfield 48, 3) := dk_181 0 48 (dk_at dksX12_way_0 7 rfl rfl)
theorem dX12_way_10 : decode cX12_way 10 = .ok (.iload_n 2, 1) := dk_28 (dk_at dksX12_way_0 10 rfl rfl)
theorem dX12_way_11 : decode cX12_way 11 = .ok (.ireturn, 1) := dk_172 (dk_at dksX12_way_0 11 rfl rfl)
abbrev cX12_run : ByteArray := prog_19_method_21_code
def yX12_run : MethodName := ⟨RX12, "run", "(J)I"⟩
def dkwX12_run_11 : List UInt8 := [182, 0, 195, 172]
abbrev dktX12_run_11 : List UInt8 := dkwX12_run_11 ++ []
def dkwX12_run_10 : List UInt8 := [21, 7, 153, 0, 7, 6, 167, 0, 5, 21, 5, 21, 6, 182, 0, 191, 132, 3, 1, 167, 255, 64, 42]
abbrev dktX12_run_10 : List UInt8 := dkwX12_run_10 ++ dktX12_run_11
def dkwX12_run_9 : List UInt8 := [21, 9, 5, 160, 0, 8, 21, 5, 167, 0, 4, 3, 54, 5, 132, 8, 1, 167, 255, 155, 42, 29, 21, 4]
abbrev dktX12_run_9 : List UInt8 := dkwX12_run_9 ++ dktX12_run_10
def dkwX12_run_8 : List UInt8 := [160, 0, 8, 21, 5, 167, 0, 31, 21, 9, 5, 160, 0, 13, 21, 5, 4, 160, 0, 7, 5, 167, 0, 15]
abbrev dktX12_run_8 : List UInt8 := dkwX12_run_8 ++ dktX12_run_9
def dkwX12_run_7 : List UInt8 := [160, 0, 16, 21, 6, 2, 160, 0, 10, 42, 180, 0, 116, 167, 0, 5, 21, 6, 54, 6, 21, 9, 4]
abbrev dktX12_run_7 : List UInt8 := dkwX12_run_7 ++ dktX12_run_8
def dkwX12_run_6 : List UInt8 := [162, 0, 91, 21, 7, 154, 0, 86, 21, 5, 153, 0, 81, 42, 21, 8, 182, 0, 188, 54, 9, 21, 9, 5]
abbrev dktX12_run_6 : List UInt8 := dkwX12_run_6 ++ dktX12_run_7
def dkwX12_run_5 : List UInt8 := [180, 0, 26, 180, 0, 157, 29, 46, 54, 8, 21, 8, 42, 180, 0, 26, 180, 0, 157, 29, 4, 96, 46]
abbrev dktX12_run_5 : List UInt8 := dkwX12_run_5 ++ dktX12_run_6
def dkwX12_run_4 : List UInt8 := [126, 4, 160, 0, 16, 42, 29, 3, 182, 0, 181, 154, 0, 7, 4, 167, 0, 4, 3, 54, 7, 42]
abbrev dktX12_run_4 : List UInt8 := dkwX12_run_4 ++ dktX12_run_5
def dkwX12_run_3 : List UInt8 := [180, 0, 26, 180, 0, 185, 29, 46, 54, 4, 4, 54, 5, 2, 54, 6, 42, 180, 0, 164, 21, 4, 122, 4]
abbrev dktX12_run_3 : List UInt8 := dkwX12_run_3 ++ dktX12_run_4
def dkwX12_run_2 : List UInt8 := [181, 0, 164, 132, 3, 1, 167, 255, 212, 42, 182, 0, 174, 62, 29, 42, 182, 0, 178, 162, 0, 190, 42]
abbrev dktX12_run_2 : List UInt8 := dkwX12_run_2 ++ dktX12_run_3
def dkwX12_run_1 : List UInt8 := [29, 4, 182, 0, 181, 153, 0, 17, 4, 42, 180, 0, 26, 180, 0, 185, 29, 46, 120, 167, 0, 4, 3, 128]
abbrev dktX12_run_1 : List UInt8 := dkwX12_run_1 ++ dktX12_run_2
def dkwX12_run_0 : List UInt8 := [42, 31, 182, 0, 170, 42, 182, 0, 174, 62, 29, 42, 182, 0, 178, 162, 0, 42, 42, 89, 180, 0, 164, 42]
abbrev dktX12_run_0 : List UInt8 := dkwX12_run_0 ++ dktX12_run_1
theorem dksX12_run_0 : cX12_run.data.toList.drop 0 = dktX12_run_0 := by decide +kernel
theorem dksX12_run_1 : cX12_run.data.toList.drop 24 = dktX12_run_1 := dk_seg dksX12_run_0 24 rfl rfl
theorem dksX12_run_2 : cX12_run.data.toList.drop 48 = dktX12_run_2 := dk_seg dksX12_run_1 24 rfl rfl
theorem dksX12_run_3 : cX12_run.data.toList.drop 71 = dktX12_run_3 := dk_seg dksX12_run_2 23 rfl rfl
theorem dksX12_run_4 : cX12_run.data.toList.drop 95 = dktX12_run_4 := dk_seg dksX12_run_3 24 rfl rfl
theorem dksX12_run_5 : cX12_run.data.toList.drop 117 = dktX12_run_5 := dk_seg dksX12_run_4 22 rfl rfl
theorem dksX12_run_6 : cX12_run.data.toList.drop 140 = dktX12_run_6 := dk_seg dksX12_run_5 23 rfl rfl
theorem dksX12_run_7 : cX12_run.data.toList.drop 164 = dktX12_run_7 := dk_seg dksX12_run_6 24 rfl rfl
theorem dksX12_run_8 : cX12_run.data.toList.drop 187 = dktX12_run_8 := dk_seg dksX12_run_7 23 rfl rfl
theorem dksX12_run_9 : cX12_run.data.toList.drop 211 = dktX12_run_9 := dk_seg dksX12_run_8 24 rfl rfl
theorem dksX12_run_10 : cX12_run.data.toList.drop 235 = dktX12_run_10 := dk_seg dksX12_run_9 24 rfl rfl
theorem dksX12_run_11 : cX12_run.data.toList.drop 258 = dktX12_run_11 := dk_seg dksX12_run_10 23 rfl rfl
theorem dX12_run_0 : decode cX12_run 0 = .ok (.aload_n 0, 1) := dk_42 (dk_at dksX12_run_0 0 rfl rfl)
theorem dX12_run_1 : decode cX12_run 1 = .ok (.lload_n 1, 1) := dk_31 (dk_at dksX12_run_0 1 rfl rfl)
theorem dX12_run_2 : decode cX12_run 2 = .ok (.invokevirtual 170, 3) := dk_182 0 170 (dk_at dksX12_run_0 2 rfl rfl)
theorem dX12_run_5 : decode cX12_run 5 = .ok (.aload_n 0, 1) := dk_42 (dk_at dksX12_run_0 5 rfl rfl)
theorem dX12_run_6 : decode cX12_run 6 = .ok (.invokevirtual 174, 3) := dk_182 0 174 (dk_at dksX12_run_0 6 rfl rfl)
theorem dX12_run_9 : decode cX12_run 9 = .ok (.istore_n 3, 1) := dk_62 (dk_at dksX12_run_0 9 rfl rfl)
theorem dX12_run_10 : decode cX12_run 10 = .ok (.iload_n 3, 1) := dk_29 (dk_at dksX12_run_0 10 rfl rfl)
theorem dX12_run_11 : decode cX12_run 11 = .ok (.aload_n 0, 1) := dk_42 (dk_at dksX12_run_0 11 rfl rfl)
theorem dX12_run_12 : decode cX12_run 12 = .ok (.invokevirtual 178, 3) := dk_182 0 178 (dk_at dksX12_run_0 12 rfl rfl)
theorem dX12_run_15 : decode cX12_run 15 = .ok (.if_icmp .ge 42, 3) := dk_162 0 42 (dk_at dksX12_run_0 15 rfl rfl)
theorem dX12_run_18 : decode cX12_run 18 = .ok (.aload_n 0, 1) := dk_42 (dk_at dksX12_run_0 18 rfl rfl)
theorem dX12_run_19 : decode cX12_run 19 = .ok (.dup, 1) := dk_89 (dk_at dksX12_run_0 19 rfl rfl)
theorem dX12_run_20 : decode cX12_run 20 = .ok (.getfield 164, 3) := dk_180 0 164 (dk_at dksX12_run_0 20 rfl rfl)
theorem dX12_run_23 : decode cX12_run 23 = .ok (.aload_n 0, 1) := dk_42 (dk_at dksX12_run_0 23 rfl rfl)
theorem dX12_run_24 : decode cX12_run 24 = .ok (.iload_n 3, 1) := dk_29 (dk_at dksX12_run_1 0 rfl rfl)
theorem dX12_run_25 : decode cX12_run 25 = .ok (.iconst 1, 1) := dk_4 (dk_at dksX12_run_1 1 rfl rfl)
theorem dX12_run_26 : decode cX12_run 26 = .ok (.invokevirtual 181, 3) := dk_182 0 181 (dk_at dksX12_run_1 2 rfl rfl)
theorem dX12_run_29 : decode cX12_run 29 = .ok (.ifCond .eq 17, 3) := dk_153 0 17 (dk_at dksX12_run_1 5 rfl rfl)
theorem dX12_run_32 : decode cX12_run 32 = .ok (.iconst 1, 1) := dk_4 (dk_at dksX12_run_1 8 rfl rfl)
theorem dX12_run_33 : decode cX12_run 33 = .ok (.aload_n 0, 1) := dk_42 (dk_at dksX12_run_1 9 rfl rfl)
theorem dX12_run_34 : decode cX12_run 34 = .ok (.getfield 26, 3) := dk_180 0 26 (dk_at dksX12_run_1 10 rfl rfl)
theorem dX12_run_37 : decode cX12_run 37 = .ok (.getfield 185, 3) := dk_180 0 185 (dk_at dksX12_run_1 13 rfl rfl)
theorem dX12_run_40 : decode cX12_run 40 = .ok (.iload_n 3, 1) := dk_29 (dk_at dksX12_run_1 16 rfl rfl)
theorem dX12_run_41 : decode cX12_run 41 = .ok (.iaload, 1) := dk_46 (dk_at dksX12_run_1 17 rfl rfl)
theorem dX12_run_42 : decode cX12_run 42 = .ok (.ishl, 1) := dk_120 (dk_at dksX12_run_1 18 rfl rfl)
theorem dX12_run_43 : decode cX12_run 43 = .ok (.goto 4, 3) := dk_167 0 4 (dk_at dksX12_run_1 19 rfl rfl)
theorem dX12_run_46 : decode cX12_run 46 = .ok (.iconst 0, 1) := dk_3 (dk_at dksX12_run_1 22 rfl rfl)
theorem dX12_run_47 : decode cX12_run 47 = .ok (.ior, 1) := dk_128 (dk_at dksX12_run_1 23 rfl rfl)
theorem dX12_run_48 : decode cX12_run 48 = .ok (.putfield 164, 3) := dk_181 0 164 (dk_at dksX12_run_2 0 rfl rfl)
theorem dX12_run_51 : decode cX12_run 51 = .ok (.iinc 3 1, 3) := dk_132 3 1 (dk_at dksX12_run_2 3 rfl rfl)
theorem dX12_run_54 : decode cX12_run 54 = .ok (.goto (-44), 3) := dk_167 255 212 (dk_at dksX12_run_2 6 rfl rfl)
theorem dX12_run_57 : decode cX12_run 57 = .ok (.aload_n 0, 1) := dk_42 (dk_at dksX12_run_2 9 rfl rfl)
theorem dX12_run_58 : decode cX12_run 58 = .ok (.invokevirtual 174, 3) := dk_182 0 174 (dk_at dksX12_run_2 10 rfl rfl)
theorem dX12_run_61 : decode cX12_run 61 = .ok (.istore_n 3, 1) := dk_62 (dk_at dksX12_run_2 13 rfl rfl)
theorem dX12_run_62 : decode cX12_run 62 = .ok (.iload_n 3, 1) := dk_29 (dk_at dksX12_run_2 14 rfl rfl)
theorem dX12_run_63 : decode cX12_run 63 = .ok (.aload_n 0, 1) := dk_42 (dk_at dksX12_run_2 15 rfl rfl)
theorem dX12_run_64 : decode cX12_run 64 = .ok (.invokevirtual 178, 3) := dk_182 0 178 (dk_at dksX12_run_2 16 rfl rfl)
theorem dX12_run_67 : decode cX12_run 67 = .ok (.if_icmp .ge 190, 3) := dk_162 0 190 (dk_at dksX12_run_2 19 rfl rfl)
theorem dX12_run_70 : decode cX12_run 70 = .ok (.aload_n 0, 1) := dk_42 (dk_at dksX12_run_2 22 rfl rfl)
theorem dX12_run_71 : decode cX12_run 71 = .ok (.getfield 26, 3) := dk_180 0 26 (dk_at dksX12_run_3 0 rfl rfl)
theorem dX12_run_74 : decode cX12_run 74 = .ok (.getfield 185, 3) := dk_180 0 185 (dk_at dksX12_run_3 3 rfl rfl)
theorem dX12_run_77 : decode cX12_run 77 = .ok (.iload_n 3, 1) := dk_29 (dk_at dksX12_run_3 6 rfl rfl)
theorem dX12_run_78 : decode cX12_run 78 = .ok (.iaload, 1) := dk_46 (dk_at dksX12_run_3 7 rfl rfl)
theorem dX12_run_79 : decode cX12_run 79 = .ok (.istore 4, 2) := dk_54 4 (dk_at dksX12_run_3 8 rfl rfl)
theorem dX12_run_81 : decode cX12_run 81 = .ok (.iconst 1, 1) := dk_4 (dk_at dksX12_run_3 10 rfl rfl)
theorem dX12_run_82 : decode cX12_run 82 = .ok (.istore 5, 2) := dk_54 5 (dk_at dksX12_run_3 11 rfl rfl)
theorem dX12_run_84 : decode cX12_run 84 = .ok (.iconst (-1), 1) := dk_2 (dk_at dksX12_run_3 13 rfl rfl)
theorem dX12_run_85 : decode cX12_run 85 = .ok (.istore 6, 2) := dk_54 6 (dk_at dksX12_run_3 14 rfl rfl)
theorem dX12_run_87 : decode cX12_run 87 = .ok (.aload_n 0, 1) := dk_42 (dk_at dksX12_run_3 16 rfl rfl)
theorem dX12_run_88 : decode cX12_run 88 = .ok (.getfield 164, 3) := dk_180 0 164 (dk_at dksX12_run_3 17 rfl rfl)
theorem dX12_run_91 : decode cX12_run 91 = .ok (.iload 4, 2) := dk_21 4 (dk_at dksX12_run_3 20 rfl rfl)
theorem dX12_run_93 : decode cX12_run 93 = .ok (.ishr, 1) := dk_122 (dk_at dksX12_run_3 22 rfl rfl)
theorem dX12_run_94 : decode cX12_run 94 = .ok (.iconst 1, 1) := dk_4 (dk_at dksX12_run_3 23 rfl rfl)
theorem dX12_run_95 : decode cX12_run 95 = .ok (.iand, 1) := dk_126 (dk_at dksX12_run_4 0 rfl rfl)
theorem dX12_run_96 : decode cX12_run 96 = .ok (.iconst 1, 1) := dk_4 (dk_at dksX12_run_4 1 rfl rfl)
theorem dX12_run_97 : decode cX12_run 97 = .ok (.if_icmp .ne 16, 3) := dk_160 0 16 (dk_at dksX12_run_4 2 rfl rfl)
theorem dX12_run_100 : decode cX12_run 100 = .ok (.aload_n 0, 1) := dk_42 (dk_at dksX12_run_4 5 rfl rfl)
theorem dX12_run_101 : decode cX12_run 101 = .ok (.iload_n 3, 1) := dk_29 (dk_at dksX12_run_4 6 rfl rfl)
theorem dX12_run_102 : decode cX12_run 102 = .ok (.iconst 0, 1) := dk_3 (dk_at dksX12_run_4 7 rfl rfl)
theorem dX12_run_103 : decode cX12_run 103 = .ok (.invokevirtual 181, 3) := dk_182 0 181 (dk_at dksX12_run_4 8 rfl rfl)
theorem dX12_run_106 : decode cX12_run 106 = .ok (.ifCond .ne 7, 3) := dk_154 0 7 (dk_at dksX12_run_4 11 rfl rfl)
theorem dX12_run_109 : decode cX12_run 109 = .ok (.iconst 1, 1) := dk_4 (dk_at dksX12_run_4 14 rfl rfl)
theorem dX12_run_110 : decode cX12_run 110 = .ok (.goto 4, 3) := dk_167 0 4 (dk_at dksX12_run_4 15 rfl rfl)
theorem dX12_run_113 : decode cX12_run 113 = .ok (.iconst 0, 1) := dk_3 (dk_at dksX12_run_4 18 rfl rfl)
theorem dX12_run_114 : decode cX12_run 114 = .ok (.istore 7, 2) := dk_54 7 (dk_at dksX12_run_4 19 rfl rfl)
theorem dX12_run_116 : decode cX12_run 116 = .ok (.aload_n 0, 1) := dk_42 (dk_at dksX12_run_4 21 rfl rfl)
theorem dX12_run_117 : decode cX12_run 117 = .ok (.getfield 26, 3) := dk_180 0 26 (dk_at dksX12_run_5 0 rfl rfl)
theorem dX12_run_120 : decode cX12_run 120 = .ok (.getfield 157, 3) := dk_180 0 157 (dk_at dksX12_run_5 3 rfl rfl)
theorem dX12_run_123 : decode cX12_run 123 = .ok (.iload_n 3, 1) := dk_29 (dk_at dksX12_run_5 6 rfl rfl)
theorem dX12_run_124 : decode cX12_run 124 = .ok (.iaload, 1) := dk_46 (dk_at dksX12_run_5 7 rfl rfl)
theorem dX12_run_125 : decode cX12_run 125 = .ok (.istore 8, 2) := dk_54 8 (dk_at dksX12_run_5 8 rfl rfl)
theorem dX12_run_127 : decode cX12_run 127 = .ok (.iload 8, 2) := dk_21 8 (dk_at dksX12_run_5 10 rfl rfl)
theorem dX12_run_129 : decode cX12_run 129 = .ok (.aload_n 0, 1) := dk_42 (dk_at dksX12_run_5 12 rfl rfl)
theorem dX12_run_130 : decode cX12_run 130 = .ok (.getfield 26, 3) := dk_180 0 26 (dk_at dksX12_run_5 13 rfl rfl)
theorem dX12_run_133 : decode cX12_run 133 = .ok (.getfield 157, 3) := dk_180 0 157 (dk_at dksX12_run_5 16 rfl rfl)
theorem dX12_run_136 : decode cX12_run 136 = .ok (.iload_n 3, 1) := dk_29 (dk_at dksX12_run_5 19 rfl rfl)
theorem dX12_run_137 : decode cX12_run 137 = .ok (.iconst 1, 1) := dk_4 (dk_at dksX12_run_5 20 rfl rfl)
theorem dX12_run_138 : decode cX12_run 138 = .ok (.iadd, 1) := dk_96 (dk_at dksX12_run_5 21 rfl rfl)
theorem dX12_run_139 : decode cX12_run 139 = .ok (.iaload, 1) := dk_46 (dk_at dksX12_run_5 22 rfl rfl)
theorem dX12_run_140 : decode cX12_run 140 = .ok (.if_icmp .ge 91, 3) := dk_162 0 91 (dk_at dksX12_run_6 0 rfl rfl)
theorem dX12_run_143 : decode cX12_run 143 = .ok (.iload 7, 2) := dk_21 7 (dk_at dksX12_run_6 3 rfl rfl)
theorem dX12_run_145 : decode cX12_run 145 = .ok (.ifCond .ne 86, 3) := dk_154 0 86 (dk_at dksX12_run_6 5 rfl rfl)
theorem dX12_run_148 : decode cX12_run 148 = .ok (.iload 5, 2) := dk_21 5 (dk_at dksX12_run_6 8 rfl rfl)
theorem dX12_run_150 : decode cX12_run 150 = .ok (.ifCond .eq 81, 3) := dk_153 0 81 (dk_at dksX12_run_6 10 rfl rfl)
theorem dX12_run_153 : decode cX12_run 153 = .ok (.aload_n 0, 1) := dk_42 (dk_at dksX12_run_6 13 rfl rfl)
theorem dX12_run_154 : decode cX12_run 154 = .ok (.iload 8, 2) := dk_21 8 (dk_at dksX12_run_6 14 rfl rfl)
theorem dX12_run_156 : decode cX12_run 156 = .ok (.invokevirtual 188, 3) := dk_182 0 188 (dk_at dksX12_run_6 16 rfl rfl)
theorem dX12_run_159 : decode cX12_run 159 = .ok (.istore 9, 2) := dk_54 9 (dk_at dksX12_run_6 19 rfl rfl)
theorem dX12_run_161 : decode cX12_run 161 = .ok (.iload 9, 2) := dk_21 9 (dk_at dksX12_run_6 21 rfl rfl)
theorem dX12_run_163 : decode cX12_run 163 = .ok (.iconst 2, 1) := dk_5 (dk_at dksX12_run_6 23 rfl rfl)
theorem dX12_run_164 : decode cX12_run 164 = .ok (.if_icmp .ne 16, 3) := dk_160 0 16 (dk_at dksX12_run_7 0 rfl rfl)
theorem dX12_run_167 : decode cX12_run 167 = .ok (.iload 6, 2) := dk_21 6 (dk_at dksX12_run_7 3 rfl rfl)
theorem dX12_run_169 : decode cX12_run 169 = .ok (.iconst (-1), 1) := dk_2 (dk_at dksX12_run_7 5 rfl rfl)
theorem dX12_run_170 : decode cX12_run 170 = .ok (.if_icmp .ne 10, 3) := dk_160 0 10 (dk_at dksX12_run_7 6 rfl rfl)
theorem dX12_run_173 : decode cX12_run 173 = .ok (.aload_n 0, 1) := dk_42 (dk_at dksX12_run_7 9 rfl rfl)
theorem dX12_run_174 : decode cX12_run 174 = .ok (.getfield 116, 3) := dk_180 0 116 (dk_at dksX12_run_7 10 rfl rfl)
theorem dX12_run_177 : decode cX12_run 177 = .ok (.goto 5, 3) := dk_167 0 5 (dk_at dksX12_run_7 13 rfl rfl)
theorem dX12_run_180 : decode cX12_run 180 = .ok (.iload 6, 2) := dk_21 6 (dk_at dksX12_run_7 16 rfl rfl)
theorem dX12_run_182 : decode cX12_run 182 = .ok (.istore 6, 2) := dk_54 6 (dk_at dksX12_run_7 18 rfl rfl)
theorem dX12_run_184 : decode cX12_run 184 = .ok (.iload 9, 2) := dk_21 9 (dk_at dksX12_run_7 20 rfl rfl)
theorem dX12_run_186 : decode cX12_run 186 = .ok (.iconst 1, 1) := dk_4 (dk_at dksX12_run_7 22 rfl rfl)
theorem dX12_run_187 : decode cX12_run 187 = .ok (.if_icmp .ne 8, 3) := dk_160 0 8 (dk_at dksX12_run_8 0 rfl rfl)
theorem dX12_run_190 : decode cX12_run 190 = .ok (.iload 5, 2) := dk_21 5 (dk_at dksX12_run_8 3 rfl rfl)
theorem dX12_run_192 : decode cX12_run 192 = .ok (.goto 31, 3) := dk_167 0 31 (dk_at dksX12_run_8 5 rfl rfl)
theorem dX12_run_195 : decode cX12_run 195 = .ok (.iload 9, 2) := dk_21 9 (dk_at dksX12_run_8 8 rfl rfl)
theorem dX12_run_197 : decode cX12_run 197 = .ok (.iconst 2, 1) := dk_5 (dk_at dksX12_run_8 10 rfl rfl)
theorem dX12_run_198 : decode cX12_run 198 = .ok (.if_icmp .ne 13, 3) := dk_160 0 13 (dk_at dksX12_run_8 11 rfl rfl)
theorem dX12_run_201 : decode cX12_run 201 = .ok (.iload 5, 2) := dk_21 5 (dk_at dksX12_run_8 14 rfl rfl)
theorem dX12_run_203 : decode cX12_run 203 = .ok (.iconst 1, 1) := dk_4 (dk_at dksX12_run_8 16 rfl rfl)
theorem dX12_run_204 : decode cX12_run 204 = .ok (.if_icmp .ne 7, 3) := dk_160 0 7 (dk_at dksX12_run_8 17 rfl rfl)
theorem dX12_run_207 : decode cX12_run 207 = .ok (.iconst 2, 1) := dk_5 (dk_at dksX12_run_8 20 rfl rfl)
theorem dX12_run_208 : decode cX12_run 208 = .ok (.goto 15, 3) := dk_167 0 15 (dk_at dksX12_run_8 21 rfl rfl)
theorem dX12_run_211 : decode cX12_run 211 = .ok (.iload 9, 2) := dk_21 9 (dk_at dksX12_run_9 0 rfl rfl)
theorem dX12_run_213 : decode cX12_run 213 = .ok (.iconst 2, 1) := dk_5 (dk_at dksX12_run_9 2 rfl rfl)
theorem dX12_run_214 : decode cX12_run 214 = .ok (.if_icmp .ne 8, 3) := dk_160 0 8 (dk_at dksX12_run_9 3 rfl rfl)
theorem dX12_run_217 : decode cX12_run 217 = .ok (.iload 5, 2) := dk_21 5 (dk_at dksX12_run_9 6 rfl rfl)
theorem dX12_run_219 : decode cX12_run 219 = .ok (.goto 4, 3) := dk_167 0 4 (dk_at dksX12_run_9 8 rfl rfl)
theorem dX12_run_222 : decode cX12_run 222 = .ok (.iconst 0, 1) := dk_3 (dk_at dksX12_run_9 11 rfl rfl)
theorem dX12_run_223 : decode cX12_run 223 = .ok (.istore 5, 2) := dk_54 5 (dk_at dksX12_run_9 12 rfl rfl)
theorem dX12_run_225 : decode cX12_run 225 = .ok (.iinc 8 1, 3) := dk_132 8 1 (dk_at dksX12_run_9 14 rfl rfl)
theorem dX12_run_228 : decode cX12_run 228 = .ok (.goto (-101), 3) := dk_167 255 155 (dk_at dksX12_run_9 17 rfl rfl)
theorem dX12_run_231 : decode cX12_run 231 = .ok (.aload_n 0, 1) := dk_42 (dk_at dksX12_run_9 20 rfl rfl)
theorem dX12_run_232 : decode cX12_run 232 = .ok (.iload_n 3, 1) := dk_29 (dk_at dksX12_run_9 21 rfl rfl)
theorem dX12_run_233 : decode cX12_run 233 = .ok (.iload 4, 2) := dk_21 4 (dk_at dksX12_run_9 22 rfl rfl)
theorem dX12_run_235 : decode cX12_run 235 = .ok (.iload 7, 2) := dk_21 7 (dk_at dksX12_run_10 0 rfl rfl)
theorem dX12_run_237 : decode cX12_run 237 = .ok (.ifCond .eq 7, 3) := dk_153 0 7 (dk_at dksX12_run_10 2 rfl rfl)
theorem dX12_run_240 : decode cX12_run 240 = .ok (.iconst 3, 1) := dk_6 (dk_at dksX12_run_10 5 rfl rfl)
theorem dX12_run_241 : decode cX12_run 241 = .ok (.goto 5, 3) := dk_167 0 5 (dk_at dksX12_run_10 6 rfl rfl)
theorem dX12_run_244 : decode cX12_run 244 = .ok (.iload 5, 2) := dk_21 5 (dk_at dksX12_run_10 9 rfl rfl)
theorem dX12_run_246 : decode cX12_run 246 = .ok (.iload 6, 2) := dk_21 6 (dk_at dksX12_run_10 11 rfl rfl)
theorem dX12_run_248 : decode cX12_run 248 = .ok (.invokevirtual 191, 3) := dk_182 0 191 (dk_at dksX12_run_10 13 rfl rfl)
theorem dX12_run_251 : decode cX12_run 251 = .ok (.iinc 3 1, 3) := dk_132 3 1 (dk_at dksX12_run_10 16 rfl rfl)
theorem dX12_run_254 : decode cX12_run 254 = .ok (.goto (-192), 3) := dk_167 255 64 (dk_at dksX12_run_10 19 rfl rfl)
theorem dX12_run_257 : decode cX12_run 257 = .ok (.aload_n 0, 1) := dk_42 (dk_at dksX12_run_10 22 rfl rfl)
theorem dX12_run_258 : decode cX12_run 258 = .ok (.invokevirtual 195, 3) := dk_182 0 195 (dk_at dksX12_run_11 0 rfl rfl)
theorem dX12_run_261 : decode cX12_run 261 = .ok (.ireturn, 1) := dk_172 (dk_at dksX12_run_11 3 rfl rfl)
abbrev cX12_begin : ByteArray := prog_19_method_17_code
def yX12_begin : MethodName := ⟨RX12, "begin", "(J)V"⟩
def dkwX12_begin_1 : List UInt8 := [42, 3, 181, 0, 92, 177]
abbrev dktX12_begin_1 : List UInt8 := dkwX12_begin_1 ++ []
def dkwX12_begin_0 : List UInt8 := [42, 42, 31, 182, 0, 160, 181, 0, 58, 42, 3, 181, 0, 164, 42, 3, 181, 0, 89, 42, 3, 181, 0, 129]
abbrev dktX12_begin_0 : List UInt8 := dkwX12_begin_0 ++ dktX12_begin_1
theorem dksX12_begin_0 : cX12_begin.data.toList.drop 0 = dktX12_begin_0 := by decide +kernel
theorem dksX12_begin_1 : cX12_begin.data.toList.drop 24 = dktX12_begin_1 := dk_seg dksX12_begin_0 24 rfl rfl
theorem dX12_begin_0 : decode cX12_begin 0 = .ok (.aload_n 0, 1) := dk_42 (dk_at dksX12_begin_0 0 rfl rfl)
theorem dX12_begin_1 : decode cX12_begin 1 = .ok (.aload_n 0, 1) := dk_42 (dk_at dksX12_begin_0 1 rfl rfl)
theorem dX12_begin_2 : decode cX12_begin 2 = .ok (.lload_n 1, 1) := dk_31 (dk_at dksX12_begin_0 2 rfl rfl)
theorem dX12_begin_3 : decode cX12_begin 3 = .ok (.invokevirtual 160, 3) := dk_182 0 160 (dk_at dksX12_begin_0 3 rfl rfl)
theorem dX12_begin_6 : decode cX12_begin 6 = .ok (.putfield 58, 3) := dk_181 0 58 (dk_at dksX12_begin_0 6 rfl rfl)
theorem dX12_begin_9 : decode cX12_begin 9 = .ok (.aload_n 0, 1) := dk_42 (dk_at dksX12_begin_0 9 rfl rfl)
theorem dX12_begin_10 : decode cX12_begin 10 = .ok (.iconst 0, 1) := dk_3 (dk_at dksX12_begin_0 10 rfl rfl)
theorem dX12_begin_11 : decode cX12_begin 11 = .ok (.putfield 164, 3) := dk_181 0 164 (dk_at dksX12_begin_0 11 rfl rfl)
theorem dX12_begin_14 : decode cX12_begin 14 = .ok (.aload_n 0, 1) := dk_42 (dk_at dksX12_begin_0 14 rfl rfl)
theorem dX12_begin_15 : decode cX12_begin 15 = .ok (.iconst 0, 1) := dk_3 (dk_at dksX12_begin_0 15 rfl rfl)
theorem dX12_begin_16 : decode cX12_begin 16 = .ok (.putfield 89, 3) := dk_181 0 89 (dk_at dksX12_begin_0 16 rfl rfl)
theorem dX12_begin_19 : decode cX12_begin 19 = .ok (.aload_n 0, 1) := dk_42 (dk_at dksX12_begin_0 19 rfl rfl)
theorem dX12_begin_20 : decode cX12_begin 20 = .ok (.iconst 0, 1) := dk_3 (dk_at dksX12_begin_0 20 rfl rfl)
theorem dX12_begin_21 : decode cX12_begin 21 = .ok (.putfield 129, 3) := dk_181 0 129 (dk_at dksX12_begin_0 21 rfl rfl)
theorem dX12_begin_24 : decode cX12_begin 24 = .ok (.aload_n 0, 1) := dk_42 (dk_at dksX12_begin_1 0 rfl rfl)
theorem dX12_begin_25 : decode cX12_begin 25 = .ok (.iconst 0, 1) := dk_3 (dk_at dksX12_begin_1 1 rfl rfl)
theorem dX12_begin_26 : decode cX12_begin 26 = .ok (.putfield 92, 3) := dk_181 0 92 (dk_at dksX12_begin_1 2 rfl rfl)
theorem dX12_begin_29 : decode cX12_begin 29 = .ok (.return_, 1) := dk_177 (dk_at dksX12_begin_1 5 rfl rfl)
abbrev cX12_firstRule : ByteArray := prog_19_method_18_code
def yX12_firstRule : MethodName := ⟨RX12, "firstRule", "()I"⟩
def dkwX12_firstRule_1 : List UInt8 := [172]
abbrev dktX12_firstRule_1 : List UInt8 := dkwX12_firstRule_1 ++ []
def dkwX12_firstRule_0 : List UInt8 := [42, 180, 0, 58, 2, 160, 0, 7, 3, 167, 0, 15, 42, 180, 0, 26, 180, 0, 167, 42, 180, 0, 58, 46]
abbrev dktX12_firstRule_0 : List UInt8 := dkwX12_firstRule_0 ++ dktX12_firstRule_1
theorem dksX12_firstRule_0 : cX12_firstRule.data.toList.drop 0 = dktX12_firstRule_0 := by decide +kernel
theorem dksX12_firstRule_1 : cX12_firstRule.data.toList.drop 24 = dktX12_firstRule_1 := dk_seg dksX12_firstRule_0 24 rfl rfl
theorem dX12_firstRule_0 : decode cX12_firstRule 0 = .ok (.aload_n 0, 1) := dk_42 (dk_at dksX12_firstRule_0 0 rfl rfl)
theorem dX12_firstRule_1 : decode cX12_firstRule 1 = .ok (.getfield 58, 3) := dk_180 0 58 (dk_at dksX12_firstRule_0 1 rfl rfl)
theorem dX12_firstRule_4 : decode cX12_firstRule 4 = .ok (.iconst (-1), 1) := dk_2 (dk_at dksX12_firstRule_0 4 rfl rfl)
theorem dX12_firstRule_5 : decode cX12_firstRule 5 = .ok (.if_icmp .ne 7, 3) := dk_160 0 7 (dk_at dksX12_firstRule_0 5 rfl rfl)
theorem dX12_firstRule_8 : decode cX12_firstRule 8 = .ok (.iconst 0, 1) := dk_3 (dk_at dksX12_firstRule_0 8 rfl rfl)
theorem dX12_firstRule_9 : decode cX12_firstRule 9 = .ok (.goto 15, 3) := dk_167 0 15 (dk_at dksX12_firstRule_0 9 rfl rfl)
theorem dX12_firstRule_12 : decode cX12_firstRule 12 = .ok (.aload_n 0, 1) := dk_42 (dk_at dksX12_firstRule_0 12 rfl rfl)
theorem dX12_firstRule_13 : decode cX12_firstRule 13 = .ok (.getfield 26, 3) := dk_180 0 26 (dk_at dksX12_firstRule_0 13 rfl rfl)
theorem dX12_firstRule_16 : decode cX12_firstRule 16 = .ok (.getfield 167, 3) := dk_180 0 167 (dk_at dksX12_firstRule_0 16 rfl rfl)
theorem dX12_firstRule_19 : decode cX12_firstRule 19 = .ok (.aload_n 0, 1) := dk_42 (dk_at dksX12_firstRule_0 19 rfl rfl)
theorem dX12_firstRule_20 : decode cX12_firstRule 20 = .ok (.getfield 58, 3) := dk_180 0 58 (dk_at dksX12_firstRule_0 20 rfl rfl)
theorem dX12_firstRule_23 : decode cX12_firstRule 23 = .ok (.iaload, 1) := dk_46 (dk_at dksX12_firstRule_0 23 rfl rfl)
theorem dX12_firstRule_24 : decode cX12_firstRule 24 = .ok (.ireturn, 1) := dk_172 (dk_at dksX12_firstRule_1 0 rfl rfl)
abbrev cX12_ruleEnd : ByteArray := prog_19_method_19_code
def yX12_ruleEnd : MethodName := ⟨RX12, "ruleEnd", "()I"⟩
def dkwX12_ruleEnd_1 : List UInt8 := [96, 46, 172]
abbrev dktX12_ruleEnd_1 : List UInt8 := dkwX12_ruleEnd_1 ++ []
def dkwX12_ruleEnd_0 : List UInt8 := [42, 180, 0, 58, 2, 160, 0, 7, 3, 167, 0, 17, 42, 180, 0, 26, 180, 0, 167, 42, 180, 0, 58, 4]
abbrev dktX12_ruleEnd_0 : List UInt8 := dkwX12_ruleEnd_0 ++ dktX12_ruleEnd_1
theorem dksX12_ruleEnd_0 : cX12_ruleEnd.data.toList.drop 0 = dktX12_ruleEnd_0 := by decide +kernel
theorem dksX12_ruleEnd_1 : cX12_ruleEnd.data.toList.drop 24 = dktX12_ruleEnd_1 := dk_seg dksX12_ruleEnd_0 24 rfl rfl
theorem dX12_ruleEnd_0 : decode cX12_ruleEnd 0 = .ok (.aload_n 0, 1) := dk_42 (dk_at dksX12_ruleEnd_0 0 rfl rfl)
theorem dX12_ruleEnd_1 : decode cX12_ruleEnd 1 = .ok (.getfield 58, 3) := dk_180 0 58 (dk_at dksX12_ruleEnd_0 1 rfl rfl)
theorem dX12_ruleEnd_4 : decode cX12_ruleEnd 4 = .ok (.iconst (-1), 1) := dk_2 (dk_at dksX12_ruleEnd_0 4 rfl rfl)
theorem dX12_ruleEnd_5 : decode cX12_ruleEnd 5 = .ok (.if_icmp .ne 7, 3) := dk_160 0 7 (dk_at dksX12_ruleEnd_0 5 rfl rfl)
theorem dX12_ruleEnd_8 : decode cX12_ruleEnd 8 = .ok (.iconst 0, 1) := dk_3 (dk_at dksX12_ruleEnd_0 8 rfl rfl)
theorem dX12_ruleEnd_9 : decode cX12_ruleEnd 9 = .ok (.goto 17, 3) := dk_167 0 17 (dk_at dksX12_ruleEnd_0 9 rfl rfl)
theorem dX12_ruleEnd_12 : decode cX12_ruleEnd 12 = .ok (.aload_n 0, 1) := dk_42 (dk_at dksX12_ruleEnd_0 12 rfl rfl)
theorem dX12_ruleEnd_13 : decode cX12_ruleEnd 13 = .ok (.getfield 26, 3) := dk_180 0 26 (dk_at dksX12_ruleEnd_0 13 rfl rfl)
theorem dX12_ruleEnd_16 : decode cX12_ruleEnd 16 = .ok (.getfield 167, 3) := dk_180 0 167 (dk_at dksX12_ruleEnd_0 16 rfl rfl)
theorem dX12_ruleEnd_19 : decode cX12_ruleEnd 19 = .ok (.aload_n 0, 1) := dk_42 (dk_at dksX12_ruleEnd_0 19 rfl rfl)
theorem dX12_ruleEnd_20 : decode cX12_ruleEnd 20 = .ok (.getfield 58, 3) := dk_180 0 58 (dk_at dksX12_ruleEnd_0 20 rfl rfl)
theorem dX12_ruleEnd_23 : decode cX12_ruleEnd 23 = .ok (.iconst 1, 1) := dk_4 (dk_at dksX12_ruleEnd_0 23 rfl rfl)
theorem dX12_ruleEnd_24 : decode cX12_ruleEnd 24 = .ok (.iadd, 1) := dk_96 (dk_at dksX12_ruleEnd_1 0 rfl rfl)
theorem dX12_ruleEnd_25 : decode cX12_ruleEnd 25 = .ok (.iaload, 1) := dk_46 (dk_at dksX12_ruleEnd_1 1 rfl rfl)
theorem dX12_ruleEnd_26 : decode cX12_ruleEnd 26 = .ok (.ireturn, 1) := dk_172 (dk_at dksX12_ruleEnd_1 2 rfl rfl)
abbrev cX12_hasTests : ByteArray := prog_19_method_16_code
def yX12_hasTests : MethodName := ⟨RX12, "hasTests", "(IZ)Z"⟩
def dkwX12_hasTests_4 : List UInt8 := [154, 0, 7, 4, 167, 0, 4, 3, 172]
abbrev dktX12_hasTests_4 : List UInt8 := dkwX12_hasTests_4 ++ []
def dkwX12_hasTests_3 : List UInt8 := [167, 0, 4, 3, 126, 54, 4, 132, 5, 1, 167, 255, 193, 29, 153, 0, 16, 21, 4, 154, 0, 7, 28]
abbrev dktX12_hasTests_3 : List UInt8 := dkwX12_hasTests_3 ++ dktX12_hasTests_4
def dkwX12_hasTests_2 : List UInt8 := [62, 21, 4, 42, 180, 0, 45, 42, 180, 0, 26, 180, 0, 119, 21, 5, 46, 46, 2, 159, 0, 7, 4]
abbrev dktX12_hasTests_2 : List UInt8 := dkwX12_hasTests_2 ++ dktX12_hasTests_3
def dkwX12_hasTests_1 : List UInt8 := [180, 0, 157, 27, 4, 96, 46, 162, 0, 53, 42, 180, 0, 26, 180, 0, 132, 21, 5, 46, 154, 0, 34, 4]
abbrev dktX12_hasTests_1 : List UInt8 := dkwX12_hasTests_1 ++ dktX12_hasTests_2
def dkwX12_hasTests_0 : List UInt8 := [3, 62, 4, 54, 4, 42, 180, 0, 26, 180, 0, 157, 27, 46, 54, 5, 21, 5, 42, 180, 0, 26]
abbrev dktX12_hasTests_0 : List UInt8 := dkwX12_hasTests_0 ++ dktX12_hasTests_1
theorem dksX12_hasTests_0 : cX12_hasTests.data.toList.drop 0 = dktX12_hasTests_0 := by decide +kernel
theorem dksX12_hasTests_1 : cX12_hasTests.data.toList.drop 22 = dktX12_hasTests_1 := dk_seg dksX12_hasTests_0 22 rfl rfl
theorem dksX12_hasTests_2 : cX12_hasTests.data.toList.drop 46 = dktX12_hasTests_2 := dk_seg dksX12_hasTests_1 24 rfl rfl
theorem dksX12_hasTests_3 : cX12_hasTests.data.toList.drop 69 = dktX12_hasTests_3 := dk_seg dksX12_hasTests_2 23 rfl rfl
theorem dksX12_hasTests_4 : cX12_hasTests.data.toList.drop 92 = dktX12_hasTests_4 := dk_seg dksX12_hasTests_3 23 rfl rfl
theorem dX12_hasTests_0 : decode cX12_hasTests 0 = .ok (.iconst 0, 1) := dk_3 (dk_at dksX12_hasTests_0 0 rfl rfl)
theorem dX12_hasTests_1 : decode cX12_hasTests 1 = .ok (.istore_n 3, 1) := dk_62 (dk_at dksX12_hasTests_0 1 rfl rfl)
theorem dX12_hasTests_2 : decode cX12_hasTests 2 = .ok (.iconst 1, 1) := dk_4 (dk_at dksX12_hasTests_0 2 rfl rfl)
theorem dX12_hasTests_3 : decode cX12_hasTests 3 = .ok (.istore 4, 2) := dk_54 4 (dk_at dksX12_hasTests_0 3 rfl rfl)
theorem dX12_hasTests_5 : decode cX12_hasTests 5 = .ok (.aload_n 0, 1) := dk_42 (dk_at dksX12_hasTests_0 5 rfl rfl)
theorem dX12_hasTests_6 : decode cX12_hasTests 6 = .ok (.getfield 26, 3) := dk_180 0 26 (dk_at dksX12_hasTests_0 6 rfl rfl)
theorem dX12_hasTests_9 : decode cX12_hasTests 9 = .ok (.getfield 157, 3) := dk_180 0 157 (dk_at dksX12_hasTests_0 9 rfl rfl)
theorem dX12_hasTests_12 : decode cX12_hasTests 12 = .ok (.iload_n 1, 1) := dk_27 (dk_at dksX12_hasTests_0 12 rfl rfl)
theorem dX12_hasTests_13 : decode cX12_hasTests 13 = .ok (.iaload, 1) := dk_46 (dk_at dksX12_hasTests_0 13 rfl rfl)
theorem dX12_hasTests_14 : decode cX12_hasTests 14 = .ok (.istore 5, 2) := dk_54 5 (dk_at dksX12_hasTests_0 14 rfl rfl)
theorem dX12_hasTests_16 : decode cX12_hasTests 16 = .ok (.iload 5, 2) := dk_21 5 (dk_at dksX12_hasTests_0 16 rfl rfl)
theorem dX12_hasTests_18 : decode cX12_hasTests 18 = .ok (.aload_n 0, 1) := dk_42 (dk_at dksX12_hasTests_0 18 rfl rfl)
theorem dX12_hasTests_19 : decode cX12_hasTests 19 = .ok (.getfield 26, 3) := dk_180 0 26 (dk_at dksX12_hasTests_0 19 rfl rfl)
theorem dX12_hasTests_22 : decode cX12_hasTests 22 = .ok (.getfield 157, 3) := dk_180 0 157 (dk_at dksX12_hasTests_1 0 rfl rfl)
theorem dX12_hasTests_25 : decode cX12_hasTests 25 = .ok (.iload_n 1, 1) := dk_27 (dk_at dksX12_hasTests_1 3 rfl rfl)
theorem dX12_hasTests_26 : decode cX12_hasTests 26 = .ok (.iconst 1, 1) := dk_4 (dk_at dksX12_hasTests_1 4 rfl rfl)
theorem dX12_hasTests_27 : decode cX12_hasTests 27 = .ok (.iadd, 1) := dk_96 (dk_at dksX12_hasTests_1 5 rfl rfl)
theorem dX12_hasTests_28 : decode cX12_hasTests 28 = .ok (.iaload, 1) := dk_46 (dk_at dksX12_hasTests_1 6 rfl rfl)
theorem dX12_hasTests_29 : decode cX12_hasTests 29 = .ok (.if_icmp .ge 53, 3) := dk_162 0 53 (dk_at dksX12_hasTests_1 7 rfl rfl)
theorem dX12_hasTests_32 : decode cX12_hasTests 32 = .ok (.aload_n 0, 1) := dk_42 (dk_at dksX12_hasTests_1 10 rfl rfl)
theorem dX12_hasTests_33 : decode cX12_hasTests 33 = .ok (.getfield 26, 3) := dk_180 0 26 (dk_at dksX12_hasTests_1 11 rfl rfl)
theorem dX12_hasTests_36 : decode cX12_hasTests 36 = .ok (.getfield 132, 3) := dk_180 0 132 (dk_at dksX12_hasTests_1 14 rfl rfl)
theorem dX12_hasTests_39 : decode cX12_hasTests 39 = .ok (.iload 5, 2) := dk_21 5 (dk_at dksX12_hasTests_1 17 rfl rfl)
theorem dX12_hasTests_41 : decode cX12_hasTests 41 = .ok (.iaload, 1) := dk_46 (dk_at dksX12_hasTests_1 19 rfl rfl)
theorem dX12_hasTests_42 : decode cX12_hasTests 42 = .ok (.ifCond .ne 34, 3) := dk_154 0 34 (dk_at dksX12_hasTests_1 20 rfl rfl)
theorem dX12_hasTests_45 : decode cX12_hasTests 45 = .ok (.iconst 1, 1) := dk_4 (dk_at dksX12_hasTests_1 23 rfl rfl)
theorem dX12_hasTests_46 : decode cX12_hasTests 46 = .ok (.istore_n 3, 1) := dk_62 (dk_at dksX12_hasTests_2 0 rfl rfl)
theorem dX12_hasTests_47 : decode cX12_hasTests 47 = .ok (.iload 4, 2) := dk_21 4 (dk_at dksX12_hasTests_2 1 rfl rfl)
theorem dX12_hasTests_49 : decode cX12_hasTests 49 = .ok (.aload_n 0, 1) := dk_42 (dk_at dksX12_hasTests_2 3 rfl rfl)
theorem dX12_hasTests_50 : decode cX12_hasTests 50 = .ok (.getfield 45, 3) := dk_180 0 45 (dk_at dksX12_hasTests_2 4 rfl rfl)
theorem dX12_hasTests_53 : decode cX12_hasTests 53 = .ok (.aload_n 0, 1) := dk_42 (dk_at dksX12_hasTests_2 7 rfl rfl)
theorem dX12_hasTests_54 : decode cX12_hasTests 54 = .ok (.getfield 26, 3) := dk_180 0 26 (dk_at dksX12_hasTests_2 8 rfl rfl)
theorem dX12_hasTests_57 : decode cX12_hasTests 57 = .ok (.getfield 119, 3) := dk_180 0 119 (dk_at dksX12_hasTests_2 11 rfl rfl)
theorem dX12_hasTests_60 : decode cX12_hasTests 60 = .ok (.iload 5, 2) := dk_21 5 (dk_at dksX12_hasTests_2 14 rfl rfl)
theorem dX12_hasTests_62 : decode cX12_hasTests 62 = .ok (.iaload, 1) := dk_46 (dk_at dksX12_hasTests_2 16 rfl rfl)
theorem dX12_hasTests_63 : decode cX12_hasTests 63 = .ok (.iaload, 1) := dk_46 (dk_at dksX12_hasTests_2 17 rfl rfl)
theorem dX12_hasTests_64 : decode cX12_hasTests 64 = .ok (.iconst (-1), 1) := dk_2 (dk_at dksX12_hasTests_2 18 rfl rfl)
theorem dX12_hasTests_65 : decode cX12_hasTests 65 = .ok (.if_icmp .eq 7, 3) := dk_159 0 7 (dk_at dksX12_hasTests_2 19 rfl rfl)
theorem dX12_hasTests_68 : decode cX12_hasTests 68 = .ok (.iconst 1, 1) := dk_4 (dk_at dksX12_hasTests_2 22 rfl rfl)
theorem dX12_hasTests_69 : decode cX12_hasTests 69 = .ok (.goto 4, 3) := dk_167 0 4 (dk_at dksX12_hasTests_3 0 rfl rfl)
theorem dX12_hasTests_72 : decode cX12_hasTests 72 = .ok (.iconst 0, 1) := dk_3 (dk_at dksX12_hasTests_3 3 rfl rfl)
theorem dX12_hasTests_73 : decode cX12_hasTests 73 = .ok (.iand, 1) := dk_126 (dk_at dksX12_hasTests_3 4 rfl rfl)
theorem dX12_hasTests_74 : decode cX12_hasTests 74 = .ok (.istore 4, 2) := dk_54 4 (dk_at dksX12_hasTests_3 5 rfl rfl)
theorem dX12_hasTests_76 : decode cX12_hasTests 76 = .ok (.iinc 5 1, 3) := dk_132 5 1 (dk_at dksX12_hasTests_3 7 rfl rfl)
theorem dX12_hasTests_79 : decode cX12_hasTests 79 = .ok (.goto (-63), 3) := dk_167 255 193 (dk_at dksX12_hasTests_3 10 rfl rfl)
theorem dX12_hasTests_82 : decode cX12_hasTests 82 = .ok (.iload_n 3, 1) := dk_29 (dk_at dksX12_hasTests_3 13 rfl rfl)
theorem dX12_hasTests_83 : decode cX12_hasTests 83 = .ok (.ifCond .eq 16, 3) := dk_153 0 16 (dk_at dksX12_hasTests_3 14 rfl rfl)
theorem dX12_hasTests_86 : decode cX12_hasTests 86 = .ok (.iload 4, 2) := dk_21 4 (dk_at dksX12_hasTests_3 17 rfl rfl)
theorem dX12_hasTests_88 : decode cX12_hasTests 88 = .ok (.ifCond .ne 7, 3) := dk_154 0 7 (dk_at dksX12_hasTests_3 19 rfl rfl)
theorem dX12_hasTests_91 : decode cX12_hasTests 91 = .ok (.iload_n 2, 1) := dk_28 (dk_at dksX12_hasTests_3 22 rfl rfl)
theorem dX12_hasTests_92 : decode cX12_hasTests 92 = .ok (.ifCond .ne 7, 3) := dk_154 0 7 (dk_at dksX12_hasTests_4 0 rfl rfl)
theorem dX12_hasTests_95 : decode cX12_hasTests 95 = .ok (.iconst 1, 1) := dk_4 (dk_at dksX12_hasTests_4 3 rfl rfl)
theorem dX12_hasTests_96 : decode cX12_hasTests 96 = .ok (.goto 4, 3) := dk_167 0 4 (dk_at dksX12_hasTests_4 4 rfl rfl)
theorem dX12_hasTests_99 : decode cX12_hasTests 99 = .ok (.iconst 0, 1) := dk_3 (dk_at dksX12_hasTests_4 7 rfl rfl)
theorem dX12_hasTests_100 : decode cX12_hasTests 100 = .ok (.ireturn, 1) := dk_172 (dk_at dksX12_hasTests_4 8 rfl rfl)
abbrev cX12_itemState : ByteArray := prog_19_method_15_code
def yX12_itemState : MethodName := ⟨RX12, "itemState", "(I)I"⟩
def dkwX12_itemState_5 : List UInt8 := [180, 0, 26, 180, 0, 138, 27, 46, 133, 32, 22, 4, 182, 0, 153, 172]
abbrev dktX12_itemState_5 : List UInt8 := dkwX12_itemState_5 ++ []
def dkwX12_itemState_4 : List UInt8 := [55, 4, 42, 42, 180, 0, 26, 180, 0, 135, 27, 46, 4, 160, 0, 7, 4, 167, 0, 4, 3, 42]
abbrev dktX12_itemState_4 : List UInt8 := dkwX12_itemState_4 ++ dktX12_itemState_5
def dkwX12_itemState_3 : List UInt8 := [180, 0, 119, 27, 46, 182, 0, 145, 172, 42, 27, 3, 2, 182, 0, 149, 65, 42, 27, 4, 2, 182, 0, 149]
abbrev dktX12_itemState_3 : List UInt8 := dkwX12_itemState_3 ++ dktX12_itemState_4
def dkwX12_itemState_2 : List UInt8 := [27, 46, 182, 0, 141, 172, 42, 180, 0, 26, 180, 0, 132, 27, 46, 4, 160, 0, 17, 42, 42, 180, 0, 26]
abbrev dktX12_itemState_2 : List UInt8 := dkwX12_itemState_2 ++ dktX12_itemState_3
def dkwX12_itemState_1 : List UInt8 := [180, 0, 26, 180, 0, 135, 27, 46, 4, 160, 0, 7, 4, 167, 0, 4, 3, 42, 180, 0, 26, 180, 0, 138]
abbrev dktX12_itemState_1 : List UInt8 := dkwX12_itemState_1 ++ dktX12_itemState_2
def dkwX12_itemState_0 : List UInt8 := [42, 180, 0, 26, 180, 0, 132, 27, 46, 154, 0, 44, 42, 42, 180, 0, 26, 180, 0, 119, 27, 46, 42]
abbrev dktX12_itemState_0 : List UInt8 := dkwX12_itemState_0 ++ dktX12_itemState_1
theorem dksX12_itemState_0 : cX12_itemState.data.toList.drop 0 = dktX12_itemState_0 := by decide +kernel
theorem dksX12_itemState_1 : cX12_itemState.data.toList.drop 23 = dktX12_itemState_1 := dk_seg dksX12_itemState_0 23 rfl rfl
theorem dksX12_itemState_2 : cX12_itemState.data.toList.drop 47 = dktX12_itemState_2 := dk_seg dksX12_itemState_1 24 rfl rfl
theorem dksX12_itemState_3 : cX12_itemState.data.toList.drop 71 = dktX12_itemState_3 := dk_seg dksX12_itemState_2 24 rfl rfl
theorem dksX12_itemState_4 : cX12_itemState.data.toList.drop 95 = dktX12_itemState_4 := dk_seg dksX12_itemState_3 24 rfl rfl
theorem dksX12_itemState_5 : cX12_itemState.data.toList.drop 117 = dktX12_itemState_5 := dk_seg dksX12_itemState_4 22 rfl rfl
theorem dX12_itemState_0 : decode cX12_itemState 0 = .ok (.aload_n 0, 1) := dk_42 (dk_at dksX12_itemState_0 0 rfl rfl)
theorem dX12_itemState_1 : decode cX12_itemState 1 = .ok (.getfield 26, 3) := dk_180 0 26 (dk_at dksX12_itemState_0 1 rfl rfl)
theorem dX12_itemState_4 : decode cX12_itemState 4 = .ok (.getfield 132, 3) := dk_180 0 132 (dk_at dksX12_itemState_0 4 rfl rfl)
theorem dX12_itemState_7 : decode cX12_itemState 7 = .ok (.iload_n 1, 1) := dk_27 (dk_at dksX12_itemState_0 7 rfl rfl)
theorem dX12_itemState_8 : decode cX12_itemState 8 = .ok (.iaload, 1) := dk_46 (dk_at dksX12_itemState_0 8 rfl rfl)
theorem dX12_itemState_9 : decode cX12_itemState 9 = .ok (.ifCond .ne 44, 3) := dk_154 0 44 (dk_at dksX12_itemState_0 9 rfl rfl)
theorem dX12_itemState_12 : decode cX12_itemState 12 = .ok (.aload_n 0, 1) := dk_42 (dk_at dksX12_itemState_0 12 rfl rfl)
theorem dX12_itemState_13 : decode cX12_itemState 13 = .ok (.aload_n 0, 1) := dk_42 (dk_at dksX12_itemState_0 13 rfl rfl)
theorem dX12_itemState_14 : decode cX12_itemState 14 = .ok (.getfield 26, 3) := dk_180 0 26 (dk_at dksX12_itemState_0 14 rfl rfl)
theorem dX12_itemState_17 : decode cX12_itemState 17 = .ok (.getfield 119, 3) := dk_180 0 119 (dk_at dksX12_itemState_0 17 rfl rfl)
theorem dX12_itemState_20 : decode cX12_itemState 20 = .ok (.iload_n 1, 1) := dk_27 (dk_at dksX12_itemState_0 20 rfl rfl)
theorem dX12_itemState_21 : decode cX12_itemState 21 = .ok (.iaload, 1) := dk_46 (dk_at dksX12_itemState_0 21 rfl rfl)
theorem dX12_itemState_22 : decode cX12_itemState 22 = .ok (.aload_n 0, 1) := dk_42 (dk_at dksX12_itemState_0 22 rfl rfl)
theorem dX12_itemState_23 : decode cX12_itemState 23 = .ok (.getfield 26, 3) := dk_180 0 26 (dk_at dksX12_itemState_1 0 rfl rfl)
theorem dX12_itemState_26 : decode cX12_itemState 26 = .ok (.getfield 135, 3) := dk_180 0 135 (dk_at dksX12_itemState_1 3 rfl rfl)
theorem dX12_itemState_29 : decode cX12_itemState 29 = .ok (.iload_n 1, 1) := dk_27 (dk_at dksX12_itemState_1 6 rfl rfl)
theorem dX12_itemState_30 : decode cX12_itemState 30 = .ok (.iaload, 1) := dk_46 (dk_at dksX12_itemState_1 7 rfl rfl)
theorem dX12_itemState_31 : decode cX12_itemState 31 = .ok (.iconst 1, 1) := dk_4 (dk_at dksX12_itemState_1 8 rfl rfl)
theorem dX12_itemState_32 : decode cX12_itemState 32 = .ok (.if_icmp .ne 7, 3) := dk_160 0 7 (dk_at dksX12_itemState_1 9 rfl rfl)
theorem dX12_itemState_35 : decode cX12_itemState 35 = .ok (.iconst 1, 1) := dk_4 (dk_at dksX12_itemState_1 12 rfl rfl)
theorem dX12_itemState_36 : decode cX12_itemState 36 = .ok (.goto 4, 3) := dk_167 0 4 (dk_at dksX12_itemState_1 13 rfl rfl)
theorem dX12_itemState_39 : decode cX12_itemState 39 = .ok (.iconst 0, 1) := dk_3 (dk_at dksX12_itemState_1 16 rfl rfl)
theorem dX12_itemState_40 : decode cX12_itemState 40 = .ok (.aload_n 0, 1) := dk_42 (dk_at dksX12_itemState_1 17 rfl rfl)
theorem dX12_itemState_41 : decode cX12_itemState 41 = .ok (.getfield 26, 3) := dk_180 0 26 (dk_at dksX12_itemState_1 18 rfl rfl)
theorem dX12_itemState_44 : decode cX12_itemState 44 = .ok (.getfield 138, 3) := dk_180 0 138 (dk_at dksX12_itemState_1 21 rfl rfl)
theorem dX12_itemState_47 : decode cX12_itemState 47 = .ok (.iload_n 1, 1) := dk_27 (dk_at dksX12_itemState_2 0 rfl rfl)
theorem dX12_itemState_48 : decode cX12_itemState 48 = .ok (.iaload, 1) := dk_46 (dk_at dksX12_itemState_2 1 rfl rfl)
theorem dX12_itemState_49 : decode cX12_itemState 49 = .ok (.invokevirtual 141, 3) := dk_182 0 141 (dk_at dksX12_itemState_2 2 rfl rfl)
theorem dX12_itemState_52 : decode cX12_itemState 52 = .ok (.ireturn, 1) := dk_172 (dk_at dksX12_itemState_2 5 rfl rfl)
theorem dX12_itemState_53 : decode cX12_itemState 53 = .ok (.aload_n 0, 1) := dk_42 (dk_at dksX12_itemState_2 6 rfl rfl)
theorem dX12_itemState_54 : decode cX12_itemState 54 = .ok (.getfield 26, 3) := dk_180 0 26 (dk_at dksX12_itemState_2 7 rfl rfl)
theorem dX12_itemState_57 : decode cX12_itemState 57 = .ok (.getfield 132, 3) := dk_180 0 132 (dk_at dksX12_itemState_2 10 rfl rfl)
theorem dX12_itemState_60 : decode cX12_itemState 60 = .ok (.iload_n 1, 1) := dk_27 (dk_at dksX12_itemState_2 13 rfl rfl)
theorem dX12_itemState_61 : decode cX12_itemState 61 = .ok (.iaload, 1) := dk_46 (dk_at dksX12_itemState_2 14 rfl rfl)
theorem dX12_itemState_62 : decode cX12_itemState 62 = .ok (.iconst 1, 1) := dk_4 (dk_at dksX12_itemState_2 15 rfl rfl)
theorem dX12_itemState_63 : decode cX12_itemState 63 = .ok (.if_icmp .ne 17, 3) := dk_160 0 17 (dk_at dksX12_itemState_2 16 rfl rfl)
theorem dX12_itemState_66 : decode cX12_itemState 66 = .ok (.aload_n 0, 1) := dk_42 (dk_at dksX12_itemState_2 19 rfl rfl)
theorem dX12_itemState_67 : decode cX12_itemState 67 = .ok (.aload_n 0, 1) := dk_42 (dk_at dksX12_itemState_2 20 rfl rfl)
theorem dX12_itemState_68 : decode cX12_itemState 68 = .ok (.getfield 26, 3) := dk_180 0 26 (dk_at dksX12_itemState_2 21 rfl rfl)
theorem dX12_itemState_71 : decode cX12_itemState 71 = .ok (.getfield 119, 3) := dk_180 0 119 (dk_at dksX12_itemState_3 0 rfl rfl)
theorem dX12_itemState_74 : decode cX12_itemState 74 = .ok (.iload_n 1, 1) := dk_27 (dk_at dksX12_itemState_3 3 rfl rfl)
theorem dX12_itemState_75 : decode cX12_itemState 75 = .ok (.iaload, 1) := dk_46 (dk_at dksX12_itemState_3 4 rfl rfl)
theorem dX12_itemState_76 : decode cX12_itemState 76 = .ok (.invokevirtual 145, 3) := dk_182 0 145 (dk_at dksX12_itemState_3 5 rfl rfl)
theorem dX12_itemState_79 : decode cX12_itemState 79 = .ok (.ireturn, 1) := dk_172 (dk_at dksX12_itemState_3 8 rfl rfl)
theorem dX12_itemState_80 : decode cX12_itemState 80 = .ok (.aload_n 0, 1) := dk_42 (dk_at dksX12_itemState_3 9 rfl rfl)
theorem dX12_itemState_81 : decode cX12_itemState 81 = .ok (.iload_n 1, 1) := dk_27 (dk_at dksX12_itemState_3 10 rfl rfl)
theorem dX12_itemState_82 : decode cX12_itemState 82 = .ok (.iconst 0, 1) := dk_3 (dk_at dksX12_itemState_3 11 rfl rfl)
theorem dX12_itemState_83 : decode cX12_itemState 83 = .ok (.iconst (-1), 1) := dk_2 (dk_at dksX12_itemState_3 12 rfl rfl)
theorem dX12_itemState_84 : decode cX12_itemState 84 = .ok (.invokevirtual 149, 3) := dk_182 0 149 (dk_at dksX12_itemState_3 13 rfl rfl)
theorem dX12_itemState_87 : decode cX12_itemState 87 = .ok (.lstore_n 2, 1) := dk_65 (dk_at dksX12_itemState_3 16 rfl rfl)
theorem dX12_itemState_88 : decode cX12_itemState 88 = .ok (.aload_n 0, 1) := dk_42 (dk_at dksX12_itemState_3 17 rfl rfl)
theorem dX12_itemState_89 : decode cX12_itemState 89 = .ok (.iload_n 1, 1) := dk_27 (dk_at dksX12_itemState_3 18 rfl rfl)
theorem dX12_itemState_90 : decode cX12_itemState 90 = .ok (.iconst 1, 1) := dk_4 (dk_at dksX12_itemState_3 19 rfl rfl)
theorem dX12_itemState_91 : decode cX12_itemState 91 = .ok (.iconst (-1), 1) := dk_2 (dk_at dksX12_itemState_3 20 rfl rfl)
theorem dX12_itemState_92 : decode cX12_itemState 92 = .ok (.invokevirtual 149, 3) := dk_182 0 149 (dk_at dksX12_itemState_3 21 rfl rfl)
theorem dX12_itemState_95 : decode cX12_itemState 95 = .ok (.lstore 4, 2) := dk_55 4 (dk_at dksX12_itemState_4 0 rfl rfl)
theorem dX12_itemState_97 : decode cX12_itemState 97 = .ok (.aload_n 0, 1) := dk_42 (dk_at dksX12_itemState_4 2 rfl rfl)
theorem dX12_itemState_98 : decode cX12_itemState 98 = .ok (.aload_n 0, 1) := dk_42 (dk_at dksX12_itemState_4 3 rfl rfl)
theorem dX12_itemState_99 : decode cX12_itemState 99 = .ok (.getfield 26, 3) := dk_180 0 26 (dk_at dksX12_itemState_4 4 rfl rfl)
theorem dX12_itemState_102 : decode cX12_itemState 102 = .ok (.getfield 135, 3) := dk_180 0 135 (dk_at dksX12_itemState_4 7 rfl rfl)
theorem dX12_itemState_105 : decode cX12_itemState 105 = .ok (.iload_n 1, 1) := dk_27 (dk_at dksX12_itemState_4 10 rfl rfl)
theorem dX12_itemState_106 : decode cX12_itemState 106 = .ok (.iaload, 1) := dk_46 (dk_at dksX12_itemState_4 11 rfl rfl)
theorem dX12_itemState_107 : decode cX12_itemState 107 = .ok (.iconst 1, 1) := dk_4 (dk_at dksX12_itemState_4 12 rfl rfl)
theorem dX12_itemState_108 : decode cX12_itemState 108 = .ok (.if_icmp .ne 7, 3) := dk_160 0 7 (dk_at dksX12_itemState_4 13 rfl rfl)
theorem dX12_itemState_111 : decode cX12_itemState 111 = .ok (.iconst 1, 1) := dk_4 (dk_at dksX12_itemState_4 16 rfl rfl)
theorem dX12_itemState_112 : decode cX12_itemState 112 = .ok (.goto 4, 3) := dk_167 0 4 (dk_at dksX12_itemState_4 17 rfl rfl)
theorem dX12_itemState_115 : decode cX12_itemState 115 = .ok (.iconst 0, 1) := dk_3 (dk_at dksX12_itemState_4 20 rfl rfl)
theorem dX12_itemState_116 : decode cX12_itemState 116 = .ok (.aload_n 0, 1) := dk_42 (dk_at dksX12_itemState_4 21 rfl rfl)
theorem dX12_itemState_117 : decode cX12_itemState 117 = .ok (.getfield 26, 3) := dk_180 0 26 (dk_at dksX12_itemState_5 0 rfl rfl)
theorem dX12_itemState_120 : decode cX12_itemState 120 = .ok (.getfield 138, 3) := dk_180 0 138 (dk_at dksX12_itemState_5 3 rfl rfl)
theorem dX12_itemState_123 : decode cX12_itemState 123 = .ok (.iload_n 1, 1) := dk_27 (dk_at dksX12_itemState_5 6 rfl rfl)
theorem dX12_itemState_124 : decode cX12_itemState 124 = .ok (.iaload, 1) := dk_46 (dk_at dksX12_itemState_5 7 rfl rfl)
theorem dX12_itemState_125 : decode cX12_itemState 125 = .ok (.i2l, 1) := dk_133 (dk_at dksX12_itemState_5 8 rfl rfl)
theorem dX12_itemState_126 : decode cX12_itemState 126 = .ok (.lload_n 2, 1) := dk_32 (dk_at dksX12_itemState_5 9 rfl rfl)
theorem dX12_itemState_127 : decode cX12_itemState 127 = .ok (.lload 4, 2) := dk_22 4 (dk_at dksX12_itemState_5 10 rfl rfl)
theorem dX12_itemState_129 : decode cX12_itemState 129 = .ok (.invokevirtual 153, 3) := dk_182 0 153 (dk_at dksX12_itemState_5 12 rfl rfl)
theorem dX12_itemState_132 : decode cX12_itemState 132 = .ok (.ireturn, 1) := dk_172 (dk_at dksX12_itemState_5 15 rfl rfl)
abbrev cX12_byTest : ByteArray := prog_19_method_13_code
def yX12_byTest : MethodName := ⟨RX12, "byTest", "(IZI)I"⟩
def dkwX12_byTest_2 : List UInt8 := [167, 0, 4, 3, 28, 160, 0, 7, 4, 167, 0, 4, 3, 172]
abbrev dktX12_byTest_2 : List UInt8 := dkwX12_byTest_2 ++ []
def dkwX12_byTest_1 : List UInt8 := [180, 0, 116, 2, 159, 0, 7, 5, 167, 0, 27, 42, 180, 0, 45, 27, 46, 29, 160, 0, 7, 4]
abbrev dktX12_byTest_1 : List UInt8 := dkwX12_byTest_1 ++ dktX12_byTest_2
def dkwX12_byTest_0 : List UInt8 := [42, 42, 180, 0, 45, 27, 46, 2, 160, 0, 10, 16, 100, 27, 96, 167, 0, 4, 2, 181, 0, 116, 42]
abbrev dktX12_byTest_0 : List UInt8 := dkwX12_byTest_0 ++ dktX12_byTest_1
theorem dksX12_byTest_0 : cX12_byTest.data.toList.drop 0 = dktX12_byTest_0 := by decide +kernel
theorem dksX12_byTest_1 : cX12_byTest.data.toList.drop 23 = dktX12_byTest_1 := dk_seg dksX12_byTest_0 23 rfl rfl
theorem dksX12_byTest_2 : cX12_byTest.data.toList.drop 45 = dktX12_byTest_2 := dk_seg dksX12_byTest_1 22 rfl rfl
theorem dX12_byTest_0 : decode cX12_byTest 0 = .ok (.aload_n 0, 1) := dk_42 (dk_at dksX12_byTest_0 0 rfl rfl)
theorem dX12_byTest_1 : decode cX12_byTest 1 = .ok (.aload_n 0, 1) := dk_42 (dk_at dksX12_byTest_0 1 rfl rfl)
theorem dX12_byTest_2 : decode cX12_byTest 2 = .ok (.getfield 45, 3) := dk_180 0 45 (dk_at dksX12_byTest_0 2 rfl rfl)
theorem dX12_byTest_5 : decode cX12_byTest 5 = .ok (.iload_n 1, 1) := dk_27 (dk_at dksX12_byTest_0 5 rfl rfl)
theorem dX12_byTest_6 : decode cX12_byTest 6 = .ok (.iaload, 1) := dk_46 (dk_at dksX12_byTest_0 6 rfl rfl)
theorem dX12_byTest_7 : decode cX12_byTest 7 = .ok (.iconst (-1), 1) := dk_2 (dk_at dksX12_byTest_0 7 rfl rfl)
theorem dX12_byTest_8 : decode cX12_byTest 8 = .ok (.if_icmp .ne 10, 3) := dk_160 0 10 (dk_at dksX12_byTest_0 8 rfl rfl)
theorem dX12_byTest_11 : decode cX12_byTest 11 = .ok (.bipush 100, 2) := dk_16 100 (dk_at dksX12_byTest_0 11 rfl rfl)
theorem dX12_byTest_13 : decode cX12_byTest 13 = .ok (.iload_n 1, 1) := dk_27 (dk_at dksX12_byTest_0 13 rfl rfl)
theorem dX12_byTest_14 : decode cX12_byTest 14 = .ok (.iadd, 1) := dk_96 (dk_at dksX12_byTest_0 14 rfl rfl)
theorem dX12_byTest_15 : decode cX12_byTest 15 = .ok (.goto 4, 3) := dk_167 0 4 (dk_at dksX12_byTest_0 15 rfl rfl)
theorem dX12_byTest_18 : decode cX12_byTest 18 = .ok (.iconst (-1), 1) := dk_2 (dk_at dksX12_byTest_0 18 rfl rfl)
theorem dX12_byTest_19 : decode cX12_byTest 19 = .ok (.putfield 116, 3) := dk_181 0 116 (dk_at dksX12_byTest_0 19 rfl rfl)
theorem dX12_byTest_22 : decode cX12_byTest 22 = .ok (.aload_n 0, 1) := dk_42 (dk_at dksX12_byTest_0 22 rfl rfl)
theorem dX12_byTest_23 : decode cX12_byTest 23 = .ok (.getfield 116, 3) := dk_180 0 116 (dk_at dksX12_byTest_1 0 rfl rfl)
theorem dX12_byTest_26 : decode cX12_byTest 26 = .ok (.iconst (-1), 1) := dk_2 (dk_at dksX12_byTest_1 3 rfl rfl)
theorem dX12_byTest_27 : decode cX12_byTest 27 = .ok (.if_icmp .eq 7, 3) := dk_159 0 7 (dk_at dksX12_byTest_1 4 rfl rfl)
theorem dX12_byTest_30 : decode cX12_byTest 30 = .ok (.iconst 2, 1) := dk_5 (dk_at dksX12_byTest_1 7 rfl rfl)
theorem dX12_byTest_31 : decode cX12_byTest 31 = .ok (.goto 27, 3) := dk_167 0 27 (dk_at dksX12_byTest_1 8 rfl rfl)
theorem dX12_byTest_34 : decode cX12_byTest 34 = .ok (.aload_n 0, 1) := dk_42 (dk_at dksX12_byTest_1 11 rfl rfl)
theorem dX12_byTest_35 : decode cX12_byTest 35 = .ok (.getfield 45, 3) := dk_180 0 45 (dk_at dksX12_byTest_1 12 rfl rfl)
theorem dX12_byTest_38 : decode cX12_byTest 38 = .ok (.iload_n 1, 1) := dk_27 (dk_at dksX12_byTest_1 15 rfl rfl)
theorem dX12_byTest_39 : decode cX12_byTest 39 = .ok (.iaload, 1) := dk_46 (dk_at dksX12_byTest_1 16 rfl rfl)
theorem dX12_byTest_40 : decode cX12_byTest 40 = .ok (.iload_n 3, 1) := dk_29 (dk_at dksX12_byTest_1 17 rfl rfl)
theorem dX12_byTest_41 : decode cX12_byTest 41 = .ok (.if_icmp .ne 7, 3) := dk_160 0 7 (dk_at dksX12_byTest_1 18 rfl rfl)
theorem dX12_byTest_44 : decode cX12_byTest 44 = .ok (.iconst 1, 1) := dk_4 (dk_at dksX12_byTest_1 21 rfl rfl)
theorem dX12_byTest_45 : decode cX12_byTest 45 = .ok (.goto 4, 3) := dk_167 0 4 (dk_at dksX12_byTest_2 0 rfl rfl)
theorem dX12_byTest_48 : decode cX12_byTest 48 = .ok (.iconst 0, 1) := dk_3 (dk_at dksX12_byTest_2 3 rfl rfl)
theorem dX12_byTest_49 : decode cX12_byTest 49 = .ok (.iload_n 2, 1) := dk_28 (dk_at dksX12_byTest_2 4 rfl rfl)
theorem dX12_byTest_50 : decode cX12_byTest 50 = .ok (.if_icmp .ne 7, 3) := dk_160 0 7 (dk_at dksX12_byTest_2 5 rfl rfl)
theorem dX12_byTest_53 : decode cX12_byTest 53 = .ok (.iconst 1, 1) := dk_4 (dk_at dksX12_byTest_2 8 rfl rfl)
theorem dX12_byTest_54 : decode cX12_byTest 54 = .ok (.goto 4, 3) := dk_167 0 4 (dk_at dksX12_byTest_2 9 rfl rfl)
theorem dX12_byTest_57 : decode cX12_byTest 57 = .ok (.iconst 0, 1) := dk_3 (dk_at dksX12_byTest_2 12 rfl rfl)
theorem dX12_byTest_58 : decode cX12_byTest 58 = .ok (.ireturn, 1) := dk_172 (dk_at dksX12_byTest_2 13 rfl rfl)
abbrev cX12_byClass : ByteArray := prog_19_method_14_code
def yX12_byClass : MethodName := ⟨RX12, "byClass", "(I)I"⟩
def dkwX12_byClass_2 : List UInt8 := [2, 159, 0, 7, 5, 167, 0, 4, 3, 172]
abbrev dktX12_byClass_2 : List UInt8 := dkwX12_byClass_2 ++ []
def dkwX12_byClass_1 : List UInt8 := [27, 122, 4, 126, 4, 160, 0, 11, 17, 1, 44, 27, 96, 167, 0, 4, 2, 181, 0, 116, 42, 180, 0, 116]
abbrev dktX12_byClass_1 : List UInt8 := dkwX12_byClass_1 ++ dktX12_byClass_2
def dkwX12_byClass_0 : List UInt8 := [42, 2, 181, 0, 116, 42, 180, 0, 89, 27, 122, 4, 126, 4, 160, 0, 5, 4, 172, 42, 42, 180, 0, 129]
abbrev dktX12_byClass_0 : List UInt8 := dkwX12_byClass_0 ++ dktX12_byClass_1
theorem dksX12_byClass_0 : cX12_byClass.data.toList.drop 0 = dktX12_byClass_0 := by decide +kernel
theorem dksX12_byClass_1 : cX12_byClass.data.toList.drop 24 = dktX12_byClass_1 := dk_seg dksX12_byClass_0 24 rfl rfl
theorem dksX12_byClass_2 : cX12_byClass.data.toList.drop 48 = dktX12_byClass_2 := dk_seg dksX12_byClass_1 24 rfl rfl
theorem dX12_byClass_0 : decode cX12_byClass 0 = .ok (.aload_n 0, 1) := dk_42 (dk_at dksX12_byClass_0 0 rfl rfl)
theorem dX12_byClass_1 : decode cX12_byClass 1 = .ok (.iconst (-1), 1) := dk_2 (dk_at dksX12_byClass_0 1 rfl rfl)
theorem dX12_byClass_2 : decode cX12_byClass 2 = .ok (.putfield 116, 3) := dk_181 0 116 (dk_at dksX12_byClass_0 2 rfl rfl)
theorem dX12_byClass_5 : decode cX12_byClass 5 = .ok (.aload_n 0, 1) := dk_42 (dk_at dksX12_byClass_0 5 rfl rfl)
theorem dX12_byClass_6 : decode cX12_byClass 6 = .ok (.getfield 89, 3) := dk_180 0 89 (dk_at dksX12_byClass_0 6 rfl rfl)
theorem dX12_byClass_9 : decode cX12_byClass 9 = .ok (.iload_n 1, 1) := dk_27 (dk_at dksX12_byClass_0 9 rfl rfl)
theorem dX12_byClass_10 : decode cX12_byClass 10 = .ok (.ishr, 1) := dk_122 (dk_at dksX12_byClass_0 10 rfl rfl)
theorem dX12_byClass_11 : decode cX12_byClass 11 = .ok (.iconst 1, 1) := dk_4 (dk_at dksX12_byClass_0 11 rfl rfl)
theorem dX12_byClass_12 : decode cX12_byClass 12 = .ok (.iand, 1) := dk_126 (dk_at dksX12_byClass_0 12 rfl rfl)
theorem dX12_byClass_13 : decode cX12_byClass 13 = .ok (.iconst 1, 1) := dk_4 (dk_at dksX12_byClass_0 13 rfl rfl)
theorem dX12_byClass_14 : decode cX12_byClass 14 = .ok (.if_icmp .ne 5, 3) := dk_160 0 5 (dk_at dksX12_byClass_0 14 rfl rfl)
theorem dX12_byClass_17 : decode cX12_byClass 17 = .ok (.iconst 1, 1) := dk_4 (dk_at dksX12_byClass_0 17 rfl rfl)
theorem dX12_byClass_18 : decode cX12_byClass 18 = .ok (.ireturn, 1) := dk_172 (dk_at dksX12_byClass_0 18 rfl rfl)
theorem dX12_byClass_19 : decode cX12_byClass 19 = .ok (.aload_n 0, 1) := dk_42 (dk_at dksX12_byClass_0 19 rfl rfl)
theorem dX12_byClass_20 : decode cX12_byClass 20 = .ok (.aload_n 0, 1) := dk_42 (dk_at dksX12_byClass_0 20 rfl rfl)
theorem dX12_byClass_21 : decode cX12_byClass 21 = .ok (.getfield 129, 3) := dk_180 0 129 (dk_at dksX12_byClass_0 21 rfl rfl)
theorem dX12_byClass_24 : decode cX12_byClass 24 = .ok (.iload_n 1, 1) := dk_27 (dk_at dksX12_byClass_1 0 rfl rfl)
theorem dX12_byClass_25 : decode cX12_byClass 25 = .ok (.ishr, 1) := dk_122 (dk_at dksX12_byClass_1 1 rfl rfl)
theorem dX12_byClass_26 : decode cX12_byClass 26 = .ok (.iconst 1, 1) := dk_4 (dk_at dksX12_byClass_1 2 rfl rfl)
theorem dX12_byClass_27 : decode cX12_byClass 27 = .ok (.iand, 1) := dk_126 (dk_at dksX12_byClass_1 3 rfl rfl)
theorem dX12_byClass_28 : decode cX12_byClass 28 = .ok (.iconst 1, 1) := dk_4 (dk_at dksX12_byClass_1 4 rfl rfl)
theorem dX12_byClass_29 : decode cX12_byClass 29 = .ok (.if_icmp .ne 11, 3) := dk_160 0 11 (dk_at dksX12_byClass_1 5 rfl rfl)
theorem dX12_byClass_32 : decode cX12_byClass 32 = .ok (.sipush 300, 3) := dk_17 1 44 (dk_at dksX12_byClass_1 8 rfl rfl)
theorem dX12_byClass_35 : decode cX12_byClass 35 = .ok (.iload_n 1, 1) := dk_27 (dk_at dksX12_byClass_1 11 rfl rfl)
theorem dX12_byClass_36 : decode cX12_byClass 36 = .ok (.iadd, 1) := dk_96 (dk_at dksX12_byClass_1 12 rfl rfl)
theorem dX12_byClass_37 : decode cX12_byClass 37 = .ok (.goto 4, 3) := dk_167 0 4 (dk_at dksX12_byClass_1 13 rfl rfl)
theorem dX12_byClass_40 : decode cX12_byClass 40 = .ok (.iconst (-1), 1) := dk_2 (dk_at dksX12_byClass_1 16 rfl rfl)
theorem dX12_byClass_41 : decode cX12_byClass 41 = .ok (.putfield 116, 3) := dk_181 0 116 (dk_at dksX12_byClass_1 17 rfl rfl)
theorem dX12_byClass_44 : decode cX12_byClass 44 = .ok (.aload_n 0, 1) := dk_42 (dk_at dksX12_byClass_1 20 rfl rfl)
theorem dX12_byClass_45 : decode cX12_byClass 45 = .ok (.getfield 116, 3) := dk_180 0 116 (dk_at dksX12_byClass_1 21 rfl rfl)
theorem dX12_byClass_48 : decode cX12_byClass 48 = .ok (.iconst (-1), 1) := dk_2 (dk_at dksX12_byClass_2 0 rfl rfl)
theorem dX12_byClass_49 : decode cX12_byClass 49 = .ok (.if_icmp .eq 7, 3) := dk_159 0 7 (dk_at dksX12_byClass_2 1 rfl rfl)
theorem dX12_byClass_52 : decode cX12_byClass 52 = .ok (.iconst 2, 1) := dk_5 (dk_at dksX12_byClass_2 4 rfl rfl)
theorem dX12_byClass_53 : decode cX12_byClass 53 = .ok (.goto 4, 3) := dk_167 0 4 (dk_at dksX12_byClass_2 5 rfl rfl)
theorem dX12_byClass_56 : decode cX12_byClass 56 = .ok (.iconst 0, 1) := dk_3 (dk_at dksX12_byClass_2 8 rfl rfl)
theorem dX12_byClass_57 : decode cX12_byClass 57 = .ok (.ireturn, 1) := dk_172 (dk_at dksX12_byClass_2 9 rfl rfl)
abbrev cX12_sumOf : ByteArray := prog_19_method_11_code
def yX12_sumOf : MethodName := ⟨RX12, "sumOf", "(IZI)J"⟩
def dkwX12_sumOf_6 : List UInt8 := [132, 6, 1, 167, 255, 134, 22, 4, 173]
abbrev dktX12_sumOf_6 : List UInt8 := dkwX12_sumOf_6 ++ []
def dkwX12_sumOf_5 : List UInt8 := [55, 8, 22, 4, 29, 2, 159, 0, 9, 29, 21, 7, 160, 0, 8, 22, 8, 167, 0, 4, 9, 97, 55, 4]
abbrev dktX12_sumOf_5 : List UInt8 := dkwX12_sumOf_5 ++ dktX12_sumOf_6
def dkwX12_sumOf_4 : List UInt8 := [154, 0, 16, 42, 17, 0, 200, 21, 7, 96, 181, 0, 116, 167, 0, 34, 42, 21, 6, 28, 182, 0, 125]
abbrev dktX12_sumOf_4 : List UInt8 := dkwX12_sumOf_4 ++ dktX12_sumOf_5
def dkwX12_sumOf_3 : List UInt8 := [21, 7, 181, 0, 116, 167, 0, 64, 42, 180, 0, 26, 180, 0, 109, 8, 21, 6, 104, 7, 96, 46]
abbrev dktX12_sumOf_3 : List UInt8 := dkwX12_sumOf_3 ++ dktX12_sumOf_4
def dkwX12_sumOf_2 : List UInt8 := [180, 0, 109, 8, 21, 6, 104, 5, 96, 46, 54, 7, 42, 180, 0, 38, 21, 7, 46, 2, 160, 0, 12, 42]
abbrev dktX12_sumOf_2 : List UInt8 := dkwX12_sumOf_2 ++ dktX12_sumOf_3
def dkwX12_sumOf_1 : List UInt8 := [180, 0, 26, 180, 0, 122, 27, 46, 162, 0, 114, 42, 180, 0, 116, 2, 160, 0, 106, 42, 180, 0, 26]
abbrev dktX12_sumOf_1 : List UInt8 := dkwX12_sumOf_1 ++ dktX12_sumOf_2
def dkwX12_sumOf_0 : List UInt8 := [9, 55, 4, 42, 2, 181, 0, 116, 42, 180, 0, 26, 180, 0, 119, 27, 46, 54, 6, 21, 6, 42]
abbrev dktX12_sumOf_0 : List UInt8 := dkwX12_sumOf_0 ++ dktX12_sumOf_1
theorem dksX12_sumOf_0 : cX12_sumOf.data.toList.drop 0 = dktX12_sumOf_0 := by decide +kernel
theorem dksX12_sumOf_1 : cX12_sumOf.data.toList.drop 22 = dktX12_sumOf_1 := dk_seg dksX12_sumOf_0 22 rfl rfl
theorem dksX12_sumOf_2 : cX12_sumOf.data.toList.drop 45 = dktX12_sumOf_2 := dk_seg dksX12_sumOf_1 23 rfl rfl
theorem dksX12_sumOf_3 : cX12_sumOf.data.toList.drop 69 = dktX12_sumOf_3 := dk_seg dksX12_sumOf_2 24 rfl rfl
theorem dksX12_sumOf_4 : cX12_sumOf.data.toList.drop 91 = dktX12_sumOf_4 := dk_seg dksX12_sumOf_3 22 rfl rfl
theorem dksX12_sumOf_5 : cX12_sumOf.data.toList.drop 114 = dktX12_sumOf_5 := dk_seg dksX12_sumOf_4 23 rfl rfl
theorem dksX12_sumOf_6 : cX12_sumOf.data.toList.drop 138 = dktX12_sumOf_6 := dk_seg dksX12_sumOf_5 24 rfl rfl
theorem dX12_sumOf_0 : decode cX12_sumOf 0 = .ok (.lconst 0, 1) := dk_9 (dk_at dksX12_sumOf_0 0 rfl rfl)
theorem dX12_sumOf_1 : decode cX12_sumOf 1 = .ok (.lstore 4, 2) := dk_55 4 (dk_at dksX12_sumOf_0 1 rfl rfl)
theorem dX12_sumOf_3 : decode cX12_sumOf 3 = .ok (.aload_n 0, 1) := dk_42 (dk_at dksX12_sumOf_0 3 rfl rfl)
theorem dX12_sumOf_4 : decode cX12_sumOf 4 = .ok (.iconst (-1), 1) := dk_2 (dk_at dksX12_sumOf_0 4 rfl rfl)
theorem dX12_sumOf_5 : decode cX12_sumOf 5 = .ok (.putfield 116, 3) := dk_181 0 116 (dk_at dksX12_sumOf_0 5 rfl rfl)
theorem dX12_sumOf_8 : decode cX12_sumOf 8 = .ok (.aload_n 0, 1) := dk_42 (dk_at dksX12_sumOf_0 8 rfl rfl)
theorem dX12_sumOf_9 : decode cX12_sumOf 9 = .ok (.getfield 26, 3) := dk_180 0 26 (dk_at dksX12_sumOf_0 9 rfl rfl)
theorem dX12_sumOf_12 : decode cX12_sumOf 12 = .ok (.getfield 119, 3) := dk_180 0 119 (dk_at dksX12_sumOf_0 12 rfl rfl)
theorem dX12_sumOf_15 : decode cX12_sumOf 15 = .ok (.iload_n 1, 1) := dk_27 (dk_at dksX12_sumOf_0 15 rfl rfl)
theorem dX12_sumOf_16 : decode cX12_sumOf 16 = .ok (.iaload, 1) := dk_46 (dk_at dksX12_sumOf_0 16 rfl rfl)
theorem dX12_sumOf_17 : decode cX12_sumOf 17 = .ok (.istore 6, 2) := dk_54 6 (dk_at dksX12_sumOf_0 17 rfl rfl)
theorem dX12_sumOf_19 : decode cX12_sumOf 19 = .ok (.iload 6, 2) := dk_21 6 (dk_at dksX12_sumOf_0 19 rfl rfl)
theorem dX12_sumOf_21 : decode cX12_sumOf 21 = .ok (.aload_n 0, 1) := dk_42 (dk_at dksX12_sumOf_0 21 rfl rfl)
theorem dX12_sumOf_22 : decode cX12_sumOf 22 = .ok (.getfield 26, 3) := dk_180 0 26 (dk_at dksX12_sumOf_1 0 rfl rfl)
theorem dX12_sumOf_25 : decode cX12_sumOf 25 = .ok (.getfield 122, 3) := dk_180 0 122 (dk_at dksX12_sumOf_1 3 rfl rfl)
theorem dX12_sumOf_28 : decode cX12_sumOf 28 = .ok (.iload_n 1, 1) := dk_27 (dk_at dksX12_sumOf_1 6 rfl rfl)
theorem dX12_sumOf_29 : decode cX12_sumOf 29 = .ok (.iaload, 1) := dk_46 (dk_at dksX12_sumOf_1 7 rfl rfl)
theorem dX12_sumOf_30 : decode cX12_sumOf 30 = .ok (.if_icmp .ge 114, 3) := dk_162 0 114 (dk_at dksX12_sumOf_1 8 rfl rfl)
theorem dX12_sumOf_33 : decode cX12_sumOf 33 = .ok (.aload_n 0, 1) := dk_42 (dk_at dksX12_sumOf_1 11 rfl rfl)
theorem dX12_sumOf_34 : decode cX12_sumOf 34 = .ok (.getfield 116, 3) := dk_180 0 116 (dk_at dksX12_sumOf_1 12 rfl rfl)
theorem dX12_sumOf_37 : decode cX12_sumOf 37 = .ok (.iconst (-1), 1) := dk_2 (dk_at dksX12_sumOf_1 15 rfl rfl)
theorem dX12_sumOf_38 : decode cX12_sumOf 38 = .ok (.if_icmp .ne 106, 3) := dk_160 0 106 (dk_at dksX12_sumOf_1 16 rfl rfl)
theorem dX12_sumOf_41 : decode cX12_sumOf 41 = .ok (.aload_n 0, 1) := dk_42 (dk_at dksX12_sumOf_1 19 rfl rfl)
theorem dX12_sumOf_42 : decode cX12_sumOf 42 = .ok (.getfield 26, 3) := dk_180 0 26 (dk_at dksX12_sumOf_1 20 rfl rfl)
theorem dX12_sumOf_45 : decode cX12_sumOf 45 = .ok (.getfield 109, 3) := dk_180 0 109 (dk_at dksX12_sumOf_2 0 rfl rfl)
theorem dX12_sumOf_48 : decode cX12_sumOf 48 = .ok (.iconst 5, 1) := dk_8 (dk_at dksX12_sumOf_2 3 rfl rfl)
theorem dX12_sumOf_49 : decode cX12_sumOf 49 = .ok (.iload 6, 2) := dk_21 6 (dk_at dksX12_sumOf_2 4 rfl rfl)
theorem dX12_sumOf_51 : decode cX12_sumOf 51 = .ok (.imul, 1) := dk_104 (dk_at dksX12_sumOf_2 6 rfl rfl)
theorem dX12_sumOf_52 : decode cX12_sumOf 52 = .ok (.iconst 2, 1) := dk_5 (dk_at dksX12_sumOf_2 7 rfl rfl)
theorem dX12_sumOf_53 : decode cX12_sumOf 53 = .ok (.iadd, 1) := dk_96 (dk_at dksX12_sumOf_2 8 rfl rfl)
theorem dX12_sumOf_54 : decode cX12_sumOf 54 = .ok (.iaload, 1) := dk_46 (dk_at dksX12_sumOf_2 9 rfl rfl)
theorem dX12_sumOf_55 : decode cX12_sumOf 55 = .ok (.istore 7, 2) := dk_54 7 (dk_at dksX12_sumOf_2 10 rfl rfl)
theorem dX12_sumOf_57 : decode cX12_sumOf 57 = .ok (.aload_n 0, 1) := dk_42 (dk_at dksX12_sumOf_2 12 rfl rfl)
theorem dX12_sumOf_58 : decode cX12_sumOf 58 = .ok (.getfield 38, 3) := dk_180 0 38 (dk_at dksX12_sumOf_2 13 rfl rfl)
theorem dX12_sumOf_61 : decode cX12_sumOf 61 = .ok (.iload 7, 2) := dk_21 7 (dk_at dksX12_sumOf_2 16 rfl rfl)
theorem dX12_sumOf_63 : decode cX12_sumOf 63 = .ok (.iaload, 1) := dk_46 (dk_at dksX12_sumOf_2 18 rfl rfl)
theorem dX12_sumOf_64 : decode cX12_sumOf 64 = .ok (.iconst (-1), 1) := dk_2 (dk_at dksX12_sumOf_2 19 rfl rfl)
theorem dX12_sumOf_65 : decode cX12_sumOf 65 = .ok (.if_icmp .ne 12, 3) := dk_160 0 12 (dk_at dksX12_sumOf_2 20 rfl rfl)
theorem dX12_sumOf_68 : decode cX12_sumOf 68 = .ok (.aload_n 0, 1) := dk_42 (dk_at dksX12_sumOf_2 23 rfl rfl)
theorem dX12_sumOf_69 : decode cX12_sumOf 69 = .ok (.iload 7, 2) := dk_21 7 (dk_at dksX12_sumOf_3 0 rfl rfl)
theorem dX12_sumOf_71 : decode cX12_sumOf 71 = .ok (.putfield 116, 3) := dk_181 0 116 (dk_at dksX12_sumOf_3 2 rfl rfl)
theorem dX12_sumOf_74 : decode cX12_sumOf 74 = .ok (.goto 64, 3) := dk_167 0 64 (dk_at dksX12_sumOf_3 5 rfl rfl)
theorem dX12_sumOf_77 : decode cX12_sumOf 77 = .ok (.aload_n 0, 1) := dk_42 (dk_at dksX12_sumOf_3 8 rfl rfl)
theorem dX12_sumOf_78 : decode cX12_sumOf 78 = .ok (.getfield 26, 3) := dk_180 0 26 (dk_at dksX12_sumOf_3 9 rfl rfl)
theorem dX12_sumOf_81 : decode cX12_sumOf 81 = .ok (.getfield 109, 3) := dk_180 0 109 (dk_at dksX12_sumOf_3 12 rfl rfl)
theorem dX12_sumOf_84 : decode cX12_sumOf 84 = .ok (.iconst 5, 1) := dk_8 (dk_at dksX12_sumOf_3 15 rfl rfl)
theorem dX12_sumOf_85 : decode cX12_sumOf 85 = .ok (.iload 6, 2) := dk_21 6 (dk_at dksX12_sumOf_3 16 rfl rfl)
theorem dX12_sumOf_87 : decode cX12_sumOf 87 = .ok (.imul, 1) := dk_104 (dk_at dksX12_sumOf_3 18 rfl rfl)
theorem dX12_sumOf_88 : decode cX12_sumOf 88 = .ok (.iconst 4, 1) := dk_7 (dk_at dksX12_sumOf_3 19 rfl rfl)
theorem dX12_sumOf_89 : decode cX12_sumOf 89 = .ok (.iadd, 1) := dk_96 (dk_at dksX12_sumOf_3 20 rfl rfl)
theorem dX12_sumOf_90 : decode cX12_sumOf 90 = .ok (.iaload, 1) := dk_46 (dk_at dksX12_sumOf_3 21 rfl rfl)
theorem dX12_sumOf_91 : decode cX12_sumOf 91 = .ok (.ifCond .ne 16, 3) := dk_154 0 16 (dk_at dksX12_sumOf_4 0 rfl rfl)
theorem dX12_sumOf_94 : decode cX12_sumOf 94 = .ok (.aload_n 0, 1) := dk_42 (dk_at dksX12_sumOf_4 3 rfl rfl)
theorem dX12_sumOf_95 : decode cX12_sumOf 95 = .ok (.sipush 200, 3) := dk_17 0 200 (dk_at dksX12_sumOf_4 4 rfl rfl)
theorem dX12_sumOf_98 : decode cX12_sumOf 98 = .ok (.iload 7, 2) := dk_21 7 (dk_at dksX12_sumOf_4 7 rfl rfl)
theorem dX12_sumOf_100 : decode cX12_sumOf 100 = .ok (.iadd, 1) := dk_96 (dk_at dksX12_sumOf_4 9 rfl rfl)
theorem dX12_sumOf_101 : decode cX12_sumOf 101 = .ok (.putfield 116, 3) := dk_181 0 116 (dk_at dksX12_sumOf_4 10 rfl rfl)
theorem dX12_sumOf_104 : decode cX12_sumOf 104 = .ok (.goto 34, 3) := dk_167 0 34 (dk_at dksX12_sumOf_4 13 rfl rfl)
theorem dX12_sumOf_107 : decode cX12_sumOf 107 = .ok (.aload_n 0, 1) := dk_42 (dk_at dksX12_sumOf_4 16 rfl rfl)
theorem dX12_sumOf_108 : decode cX12_sumOf 108 = .ok (.iload 6, 2) := dk_21 6 (dk_at dksX12_sumOf_4 17 rfl rfl)
theorem dX12_sumOf_110 : decode cX12_sumOf 110 = .ok (.iload_n 2, 1) := dk_28 (dk_at dksX12_sumOf_4 19 rfl rfl)
theorem dX12_sumOf_111 : decode cX12_sumOf 111 = .ok (.invokevirtual 125, 3) := dk_182 0 125 (dk_at dksX12_sumOf_4 20 rfl rfl)
theorem dX12_sumOf_114 : decode cX12_sumOf 114 = .ok (.lstore 8, 2) := dk_55 8 (dk_at dksX12_sumOf_5 0 rfl rfl)
theorem dX12_sumOf_116 : decode cX12_sumOf 116 = .ok (.lload 4, 2) := dk_22 4 (dk_at dksX12_sumOf_5 2 rfl rfl)
theorem dX12_sumOf_118 : decode cX12_sumOf 118 = .ok (.iload_n 3, 1) := dk_29 (dk_at dksX12_sumOf_5 4 rfl rfl)
theorem dX12_sumOf_119 : decode cX12_sumOf 119 = .ok (.iconst (-1), 1) := dk_2 (dk_at dksX12_sumOf_5 5 rfl rfl)
theorem dX12_sumOf_120 : decode cX12_sumOf 120 = .ok (.if_icmp .eq 9, 3) := dk_159 0 9 (dk_at dksX12_sumOf_5 6 rfl rfl)
theorem dX12_sumOf_123 : decode cX12_sumOf 123 = .ok (.iload_n 3, 1) := dk_29 (dk_at dksX12_sumOf_5 9 rfl rfl)
theorem dX12_sumOf_124 : decode cX12_sumOf 124 = .ok (.iload 7, 2) := dk_21 7 (dk_at dksX12_sumOf_5 10 rfl rfl)
theorem dX12_sumOf_126 : decode cX12_sumOf 126 = .ok (.if_icmp .ne 8, 3) := dk_160 0 8 (dk_at dksX12_sumOf_5 12 rfl rfl)
theorem dX12_sumOf_129 : decode cX12_sumOf 129 = .ok (.lload 8, 2) := dk_22 8 (dk_at dksX12_sumOf_5 15 rfl rfl)
theorem dX12_sumOf_131 : decode cX12_sumOf 131 = .ok (.goto 4, 3) := dk_167 0 4 (dk_at dksX12_sumOf_5 17 rfl rfl)
theorem dX12_sumOf_134 : decode cX12_sumOf 134 = .ok (.lconst 0, 1) := dk_9 (dk_at dksX12_sumOf_5 20 rfl rfl)
theorem dX12_sumOf_135 : decode cX12_sumOf 135 = .ok (.ladd, 1) := dk_97 (dk_at dksX12_sumOf_5 21 rfl rfl)
theorem dX12_sumOf_136 : decode cX12_sumOf 136 = .ok (.lstore 4, 2) := dk_55 4 (dk_at dksX12_sumOf_5 22 rfl rfl)
theorem dX12_sumOf_138 : decode cX12_sumOf 138 = .ok (.iinc 6 1, 3) := dk_132 6 1 (dk_at dksX12_sumOf_6 0 rfl rfl)
theorem dX12_sumOf_141 : decode cX12_sumOf 141 = .ok (.goto (-122), 3) := dk_167 255 134 (dk_at dksX12_sumOf_6 3 rfl rfl)
theorem dX12_sumOf_144 : decode cX12_sumOf 144 = .ok (.lload 4, 2) := dk_22 4 (dk_at dksX12_sumOf_6 6 rfl rfl)
theorem dX12_sumOf_146 : decode cX12_sumOf 146 = .ok (.lreturn, 1) := dk_173 (dk_at dksX12_sumOf_6 8 rfl rfl)
abbrev cX12_termAt : ByteArray := prog_19_method_10_code
def yX12_termAt : MethodName := ⟨RX12, "termAt", "(IZ)J"⟩
def dkwX12_termAt_2 : List UInt8 := [180, 0, 26, 180, 0, 109, 29, 7, 96, 46, 28, 182, 0, 112, 173]
abbrev dktX12_termAt_2 : List UInt8 := dkwX12_termAt_2 ++ []
def dkwX12_termAt_1 : List UInt8 := [46, 42, 180, 0, 26, 180, 0, 109, 29, 5, 96, 46, 42, 180, 0, 26, 180, 0, 109, 29, 6, 96, 46, 42]
abbrev dktX12_termAt_1 : List UInt8 := dkwX12_termAt_1 ++ dktX12_termAt_2
def dkwX12_termAt_0 : List UInt8 := [8, 27, 104, 62, 42, 42, 180, 0, 26, 180, 0, 109, 29, 46, 42, 180, 0, 26, 180, 0, 109, 29, 4, 96]
abbrev dktX12_termAt_0 : List UInt8 := dkwX12_termAt_0 ++ dktX12_termAt_1
theorem dksX12_termAt_0 : cX12_termAt.data.toList.drop 0 = dktX12_termAt_0 := by decide +kernel
theorem dksX12_termAt_1 : cX12_termAt.data.toList.drop 24 = dktX12_termAt_1 := dk_seg dksX12_termAt_0 24 rfl rfl
theorem dksX12_termAt_2 : cX12_termAt.data.toList.drop 48 = dktX12_termAt_2 := dk_seg dksX12_termAt_1 24 rfl rfl
theorem dX12_termAt_0 : decode cX12_termAt 0 = .ok (.iconst 5, 1) := dk_8 (dk_at dksX12_termAt_0 0 rfl rfl)
theorem dX12_termAt_1 : decode cX12_termAt 1 = .ok (.iload_n 1, 1) := dk_27 (dk_at dksX12_termAt_0 1 rfl rfl)
theorem dX12_termAt_2 : decode cX12_termAt 2 = .ok (.imul, 1) := dk_104 (dk_at dksX12_termAt_0 2 rfl rfl)
theorem dX12_termAt_3 : decode cX12_termAt 3 = .ok (.istore_n 3, 1) := dk_62 (dk_at dksX12_termAt_0 3 rfl rfl)
theorem dX12_termAt_4 : decode cX12_termAt 4 = .ok (.aload_n 0, 1) := dk_42 (dk_at dksX12_termAt_0 4 rfl rfl)
theorem dX12_termAt_5 : decode cX12_termAt 5 = .ok (.aload_n 0, 1) := dk_42 (dk_at dksX12_termAt_0 5 rfl rfl)
theorem dX12_termAt_6 : decode cX12_termAt 6 = .ok (.getfield 26, 3) := dk_180 0 26 (dk_at dksX12_termAt_0 6 rfl rfl)
theorem dX12_termAt_9 : decode cX12_termAt 9 = .ok (.getfield 109, 3) := dk_180 0 109 (dk_at dksX12_termAt_0 9 rfl rfl)
theorem dX12_termAt_12 : decode cX12_termAt 12 = .ok (.iload_n 3, 1) := dk_29 (dk_at dksX12_termAt_0 12 rfl rfl)
theorem dX12_termAt_13 : decode cX12_termAt 13 = .ok (.iaload, 1) := dk_46 (dk_at dksX12_termAt_0 13 rfl rfl)
theorem dX12_termAt_14 : decode cX12_termAt 14 = .ok (.aload_n 0, 1) := dk_42 (dk_at dksX12_termAt_0 14 rfl rfl)
theorem dX12_termAt_15 : decode cX12_termAt 15 = .ok (.getfield 26, 3) := dk_180 0 26 (dk_at dksX12_termAt_0 15 rfl rfl)
theorem dX12_termAt_18 : decode cX12_termAt 18 = .ok (.getfield 109, 3) := dk_180 0 109 (dk_at dksX12_termAt_0 18 rfl rfl)
theorem dX12_termAt_21 : decode cX12_termAt 21 = .ok (.iload_n 3, 1) := dk_29 (dk_at dksX12_termAt_0 21 rfl rfl)
theorem dX12_termAt_22 : decode cX12_termAt 22 = .ok (.iconst 1, 1) := dk_4 (dk_at dksX12_termAt_0 22 rfl rfl)
theorem dX12_termAt_23 : decode cX12_termAt 23 = .ok (.iadd, 1) := dk_96 (dk_at dksX12_termAt_0 23 rfl rfl)
theorem dX12_termAt_24 : decode cX12_termAt 24 = .ok (.iaload, 1) := dk_46 (dk_at dksX12_termAt_1 0 rfl rfl)
theorem dX12_termAt_25 : decode cX12_termAt 25 = .ok (.aload_n 0, 1) := dk_42 (dk_at dksX12_termAt_1 1 rfl rfl)
theorem dX12_termAt_26 : decode cX12_termAt 26 = .ok (.getfield 26, 3) := dk_180 0 26 (dk_at dksX12_termAt_1 2 rfl rfl)
theorem dX12_termAt_29 : decode cX12_termAt 29 = .ok (.getfield 109, 3) := dk_180 0 109 (dk_at dksX12_termAt_1 5 rfl rfl)
theorem dX12_termAt_32 : decode cX12_termAt 32 = .ok (.iload_n 3, 1) := dk_29 (dk_at dksX12_termAt_1 8 rfl rfl)
theorem dX12_termAt_33 : decode cX12_termAt 33 = .ok (.iconst 2, 1) := dk_5 (dk_at dksX12_termAt_1 9 rfl rfl)
theorem dX12_termAt_34 : decode cX12_termAt 34 = .ok (.iadd, 1) := dk_96 (dk_at dksX12_termAt_1 10 rfl rfl)
theorem dX12_termAt_35 : decode cX12_termAt 35 = .ok (.iaload, 1) := dk_46 (dk_at dksX12_termAt_1 11 rfl rfl)
theorem dX12_termAt_36 : decode cX12_termAt 36 = .ok (.aload_n 0, 1) := dk_42 (dk_at dksX12_termAt_1 12 rfl rfl)
theorem dX12_termAt_37 : decode cX12_termAt 37 = .ok (.getfield 26, 3) := dk_180 0 26 (dk_at dksX12_termAt_1 13 rfl rfl)
theorem dX12_termAt_40 : decode cX12_termAt 40 = .ok (.getfield 109, 3) := dk_180 0 109 (dk_at dksX12_termAt_1 16 rfl rfl)
theorem dX12_termAt_43 : decode cX12_termAt 43 = .ok (.iload_n 3, 1) := dk_29 (dk_at dksX12_termAt_1 19 rfl rfl)
theorem dX12_termAt_44 : decode cX12_termAt 44 = .ok (.iconst 3, 1) := dk_6 (dk_at dksX12_termAt_1 20 rfl rfl)
theorem dX12_termAt_45 : decode cX12_termAt 45 = .ok (.iadd, 1) := dk_96 (dk_at dksX12_termAt_1 21 rfl rfl)
theorem dX12_termAt_46 : decode cX12_termAt 46 = .ok (.iaload, 1) := dk_46 (dk_at dksX12_termAt_1 22 rfl rfl)
theorem dX12_termAt_47 : decode cX12_termAt 47 = .ok (.aload_n 0, 1) := dk_42 (dk_at dksX12_termAt_1 23 rfl rfl)
theorem dX12_termAt_48 : decode cX12_termAt 48 = .ok (.getfield 26, 3) := dk_180 0 26 (dk_at dksX12_termAt_2 0 rfl rfl)
theorem dX12_termAt_51 : decode cX12_termAt 51 = .ok (.getfield 109, 3) := dk_180 0 109 (dk_at dksX12_termAt_2 3 rfl rfl)
theorem dX12_termAt_54 : decode cX12_termAt 54 = .ok (.iload_n 3, 1) := dk_29 (dk_at dksX12_termAt_2 6 rfl rfl)
theorem dX12_termAt_55 : decode cX12_termAt 55 = .ok (.iconst 4, 1) := dk_7 (dk_at dksX12_termAt_2 7 rfl rfl)
theorem dX12_termAt_56 : decode cX12_termAt 56 = .ok (.iadd, 1) := dk_96 (dk_at dksX12_termAt_2 8 rfl rfl)
theorem dX12_termAt_57 : decode cX12_termAt 57 = .ok (.iaload, 1) := dk_46 (dk_at dksX12_termAt_2 9 rfl rfl)
theorem dX12_termAt_58 : decode cX12_termAt 58 = .ok (.iload_n 2, 1) := dk_28 (dk_at dksX12_termAt_2 10 rfl rfl)
theorem dX12_termAt_59 : decode cX12_termAt 59 = .ok (.invokevirtual 112, 3) := dk_182 0 112 (dk_at dksX12_termAt_2 11 rfl rfl)
theorem dX12_termAt_62 : decode cX12_termAt 62 = .ok (.lreturn, 1) := dk_173 (dk_at dksX12_termAt_2 14 rfl rfl)
abbrev cX12_term : ByteArray := prog_19_method_9_code
def yX12_term : MethodName := ⟨RX12, "term", "(IIIIIZ)J"⟩
def dkwX12_term_2 : List UInt8 := [55, 8, 27, 133, 21, 5, 2, 160, 0, 8, 22, 8, 167, 0, 9, 22, 8, 21, 5, 133, 109, 105, 173]
abbrev dktX12_term_2 : List UInt8 := dkwX12_term_2 ++ []
def dkwX12_term_1 : List UInt8 := [180, 0, 38, 29, 46, 54, 7, 21, 7, 21, 4, 162, 0, 7, 9, 167, 0, 9, 28, 133, 21, 7, 133, 105]
abbrev dktX12_term_1 : List UInt8 := dkwX12_term_1 ++ dktX12_term_2
def dkwX12_term_0 : List UInt8 := [21, 6, 27, 158, 0, 7, 4, 167, 0, 4, 3, 160, 0, 12, 42, 180, 0, 42, 29, 46, 167, 0, 9, 42]
abbrev dktX12_term_0 : List UInt8 := dkwX12_term_0 ++ dktX12_term_1
theorem dksX12_term_0 : cX12_term.data.toList.drop 0 = dktX12_term_0 := by decide +kernel
theorem dksX12_term_1 : cX12_term.data.toList.drop 24 = dktX12_term_1 := dk_seg dksX12_term_0 24 rfl rfl
theorem dksX12_term_2 : cX12_term.data.toList.drop 48 = dktX12_term_2 := dk_seg dksX12_term_1 24 rfl rfl
theorem dX12_term_0 : decode cX12_term 0 = .ok (.iload 6, 2) := dk_21 6 (dk_at dksX12_term_0 0 rfl rfl)
theorem dX12_term_2 : decode cX12_term 2 = .ok (.iload_n 1, 1) := dk_27 (dk_at dksX12_term_0 2 rfl rfl)
theorem dX12_term_3 : decode cX12_term 3 = .ok (.ifCond .le 7, 3) := dk_158 0 7 (dk_at dksX12_term_0 3 rfl rfl)
theorem dX12_term_6 : decode cX12_term 6 = .ok (.iconst 1, 1) := dk_4 (dk_at dksX12_term_0 6 rfl rfl)
theorem dX12_term_7 : decode cX12_term 7 = .ok (.goto 4, 3) := dk_167 0 4 (dk_at dksX12_term_0 7 rfl rfl)
theorem dX12_term_10 : decode cX12_term 10 = .ok (.iconst 0, 1) := dk_3 (dk_at dksX12_term_0 10 rfl rfl)
theorem dX12_term_11 : decode cX12_term 11 = .ok (.if_icmp .ne 12, 3) := dk_160 0 12 (dk_at dksX12_term_0 11 rfl rfl)
theorem dX12_term_14 : decode cX12_term 14 = .ok (.aload_n 0, 1) := dk_42 (dk_at dksX12_term_0 14 rfl rfl)
theorem dX12_term_15 : decode cX12_term 15 = .ok (.getfield 42, 3) := dk_180 0 42 (dk_at dksX12_term_0 15 rfl rfl)
theorem dX12_term_18 : decode cX12_term 18 = .ok (.iload_n 3, 1) := dk_29 (dk_at dksX12_term_0 18 rfl rfl)
theorem dX12_term_19 : decode cX12_term 19 = .ok (.iaload, 1) := dk_46 (dk_at dksX12_term_0 19 rfl rfl)
theorem dX12_term_20 : decode cX12_term 20 = .ok (.goto 9, 3) := dk_167 0 9 (dk_at dksX12_term_0 20 rfl rfl)
theorem dX12_term_23 : decode cX12_term 23 = .ok (.aload_n 0, 1) := dk_42 (dk_at dksX12_term_0 23 rfl rfl)
theorem dX12_term_24 : decode cX12_term 24 = .ok (.getfield 38, 3) := dk_180 0 38 (dk_at dksX12_term_1 0 rfl rfl)
theorem dX12_term_27 : decode cX12_term 27 = .ok (.iload_n 3, 1) := dk_29 (dk_at dksX12_term_1 3 rfl rfl)
theorem dX12_term_28 : decode cX12_term 28 = .ok (.iaload, 1) := dk_46 (dk_at dksX12_term_1 4 rfl rfl)
theorem dX12_term_29 : decode cX12_term 29 = .ok (.istore 7, 2) := dk_54 7 (dk_at dksX12_term_1 5 rfl rfl)
theorem dX12_term_31 : decode cX12_term 31 = .ok (.iload 7, 2) := dk_21 7 (dk_at dksX12_term_1 7 rfl rfl)
theorem dX12_term_33 : decode cX12_term 33 = .ok (.iload 4, 2) := dk_21 4 (dk_at dksX12_term_1 9 rfl rfl)
theorem dX12_term_35 : decode cX12_term 35 = .ok (.if_icmp .ge 7, 3) := dk_162 0 7 (dk_at dksX12_term_1 11 rfl rfl)
theorem dX12_term_38 : decode cX12_term 38 = .ok (.lconst 0, 1) := dk_9 (dk_at dksX12_term_1 14 rfl rfl)
theorem dX12_term_39 : decode cX12_term 39 = .ok (.goto 9, 3) := dk_167 0 9 (dk_at dksX12_term_1 15 rfl rfl)
theorem dX12_term_42 : decode cX12_term 42 = .ok (.iload_n 2, 1) := dk_28 (dk_at dksX12_term_1 18 rfl rfl)
theorem dX12_term_43 : decode cX12_term 43 = .ok (.i2l, 1) := dk_133 (dk_at dksX12_term_1 19 rfl rfl)
theorem dX12_term_44 : decode cX12_term 44 = .ok (.iload 7, 2) := dk_21 7 (dk_at dksX12_term_1 20 rfl rfl)
theorem dX12_term_46 : decode cX12_term 46 = .ok (.i2l, 1) := dk_133 (dk_at dksX12_term_1 22 rfl rfl)
theorem dX12_term_47 : decode cX12_term 47 = .ok (.lmul, 1) := dk_105 (dk_at dksX12_term_1 23 rfl rfl)
theorem dX12_term_48 : decode cX12_term 48 = .ok (.lstore 8, 2) := dk_55 8 (dk_at dksX12_term_2 0 rfl rfl)
theorem dX12_term_50 : decode cX12_term 50 = .ok (.iload_n 1, 1) := dk_27 (dk_at dksX12_term_2 2 rfl rfl)
theorem dX12_term_51 : decode cX12_term 51 = .ok (.i2l, 1) := dk_133 (dk_at dksX12_term_2 3 rfl rfl)
theorem dX12_term_52 : decode cX12_term 52 = .ok (.iload 5, 2) := dk_21 5 (dk_at dksX12_term_2 4 rfl rfl)
theorem dX12_term_54 : decode cX12_term 54 = .ok (.iconst (-1), 1) := dk_2 (dk_at dksX12_term_2 6 rfl rfl)
theorem dX12_term_55 : decode cX12_term 55 = .ok (.if_icmp .ne 8, 3) := dk_160 0 8 (dk_at dksX12_term_2 7 rfl rfl)
theorem dX12_term_58 : decode cX12_term 58 = .ok (.lload 8, 2) := dk_22 8 (dk_at dksX12_term_2 10 rfl rfl)
theorem dX12_term_60 : decode cX12_term 60 = .ok (.goto 9, 3) := dk_167 0 9 (dk_at dksX12_term_2 12 rfl rfl)
theorem dX12_term_63 : decode cX12_term 63 = .ok (.lload 8, 2) := dk_22 8 (dk_at dksX12_term_2 15 rfl rfl)
theorem dX12_term_65 : decode cX12_term 65 = .ok (.iload 5, 2) := dk_21 5 (dk_at dksX12_term_2 17 rfl rfl)
theorem dX12_term_67 : decode cX12_term 67 = .ok (.i2l, 1) := dk_133 (dk_at dksX12_term_2 19 rfl rfl)
theorem dX12_term_68 : decode cX12_term 68 = .ok (.ldiv, 1) := dk_109 (dk_at dksX12_term_2 20 rfl rfl)
theorem dX12_term_69 : decode cX12_term 69 = .ok (.lmul, 1) := dk_105 (dk_at dksX12_term_2 21 rfl rfl)
theorem dX12_term_70 : decode cX12_term 70 = .ok (.lreturn, 1) := dk_173 (dk_at dksX12_term_2 22 rfl rfl)
abbrev cX12_bySum : ByteArray := prog_19_method_12_code
def yX12_bySum : MethodName := ⟨RX12, "bySum", "(ZJJJ)I"⟩
def dkwX12_bySum_2 : List UInt8 := [156, 0, 7, 4, 167, 0, 4, 3, 172]
abbrev dktX12_bySum_2 : List UInt8 := dkwX12_bySum_2 ++ []
def dkwX12_bySum_1 : List UInt8 := [22, 4, 55, 8, 27, 153, 0, 13, 22, 8, 32, 148, 158, 0, 17, 167, 0, 10, 22, 8, 32, 148]
abbrev dktX12_bySum_1 : List UInt8 := dkwX12_bySum_1 ++ dktX12_bySum_2
def dkwX12_bySum_0 : List UInt8 := [42, 180, 0, 116, 2, 159, 0, 5, 5, 172, 27, 42, 180, 0, 48, 160, 0, 8, 22, 6, 167, 0, 5]
abbrev dktX12_bySum_0 : List UInt8 := dkwX12_bySum_0 ++ dktX12_bySum_1
theorem dksX12_bySum_0 : cX12_bySum.data.toList.drop 0 = dktX12_bySum_0 := by decide +kernel
theorem dksX12_bySum_1 : cX12_bySum.data.toList.drop 23 = dktX12_bySum_1 := dk_seg dksX12_bySum_0 23 rfl rfl
theorem dksX12_bySum_2 : cX12_bySum.data.toList.drop 45 = dktX12_bySum_2 := dk_seg dksX12_bySum_1 22 rfl rfl
theorem dX12_bySum_0 : decode cX12_bySum 0 = .ok (.aload_n 0, 1) := dk_42 (dk_at dksX12_bySum_0 0 rfl rfl)
theorem dX12_bySum_1 : decode cX12_bySum 1 = .ok (.getfield 116, 3) := dk_180 0 116 (dk_at dksX12_bySum_0 1 rfl rfl)
theorem dX12_bySum_4 : decode cX12_bySum 4 = .ok (.iconst (-1), 1) := dk_2 (dk_at dksX12_bySum_0 4 rfl rfl)
theorem dX12_bySum_5 : decode cX12_bySum 5 = .ok (.if_icmp .eq 5, 3) := dk_159 0 5 (dk_at dksX12_bySum_0 5 rfl rfl)
theorem dX12_bySum_8 : decode cX12_bySum 8 = .ok (.iconst 2, 1) := dk_5 (dk_at dksX12_bySum_0 8 rfl rfl)
theorem dX12_bySum_9 : decode cX12_bySum 9 = .ok (.ireturn, 1) := dk_172 (dk_at dksX12_bySum_0 9 rfl rfl)
theorem dX12_bySum_10 : decode cX12_bySum 10 = .ok (.iload_n 1, 1) := dk_27 (dk_at dksX12_bySum_0 10 rfl rfl)
theorem dX12_bySum_11 : decode cX12_bySum 11 = .ok (.aload_n 0, 1) := dk_42 (dk_at dksX12_bySum_0 11 rfl rfl)
theorem dX12_bySum_12 : decode cX12_bySum 12 = .ok (.getfield 48, 3) := dk_180 0 48 (dk_at dksX12_bySum_0 12 rfl rfl)
theorem dX12_bySum_15 : decode cX12_bySum 15 = .ok (.if_icmp .ne 8, 3) := dk_160 0 8 (dk_at dksX12_bySum_0 15 rfl rfl)
theorem dX12_bySum_18 : decode cX12_bySum 18 = .ok (.lload 6, 2) := dk_22 6 (dk_at dksX12_bySum_0 18 rfl rfl)
theorem dX12_bySum_20 : decode cX12_bySum 20 = .ok (.goto 5, 3) := dk_167 0 5 (dk_at dksX12_bySum_0 20 rfl rfl)
theorem dX12_bySum_23 : decode cX12_bySum 23 = .ok (.lload 4, 2) := dk_22 4 (dk_at dksX12_bySum_1 0 rfl rfl)
theorem dX12_bySum_25 : decode cX12_bySum 25 = .ok (.lstore 8, 2) := dk_55 8 (dk_at dksX12_bySum_1 2 rfl rfl)
theorem dX12_bySum_27 : decode cX12_bySum 27 = .ok (.iload_n 1, 1) := dk_27 (dk_at dksX12_bySum_1 4 rfl rfl)
theorem dX12_bySum_28 : decode cX12_bySum 28 = .ok (.ifCond .eq 13, 3) := dk_153 0 13 (dk_at dksX12_bySum_1 5 rfl rfl)
theorem dX12_bySum_31 : decode cX12_bySum 31 = .ok (.lload 8, 2) := dk_22 8 (dk_at dksX12_bySum_1 8 rfl rfl)
theorem dX12_bySum_33 : decode cX12_bySum 33 = .ok (.lload_n 2, 1) := dk_32 (dk_at dksX12_bySum_1 10 rfl rfl)
theorem dX12_bySum_34 : decode cX12_bySum 34 = .ok (.lcmp, 1) := dk_148 (dk_at dksX12_bySum_1 11 rfl rfl)
theorem dX12_bySum_35 : decode cX12_bySum 35 = .ok (.ifCond .le 17, 3) := dk_158 0 17 (dk_at dksX12_bySum_1 12 rfl rfl)
theorem dX12_bySum_38 : decode cX12_bySum 38 = .ok (.goto 10, 3) := dk_167 0 10 (dk_at dksX12_bySum_1 15 rfl rfl)
theorem dX12_bySum_41 : decode cX12_bySum 41 = .ok (.lload 8, 2) := dk_22 8 (dk_at dksX12_bySum_1 18 rfl rfl)
theorem dX12_bySum_43 : decode cX12_bySum 43 = .ok (.lload_n 2, 1) := dk_32 (dk_at dksX12_bySum_1 20 rfl rfl)
theorem dX12_bySum_44 : decode cX12_bySum 44 = .ok (.lcmp, 1) := dk_148 (dk_at dksX12_bySum_1 21 rfl rfl)
theorem dX12_bySum_45 : decode cX12_bySum 45 = .ok (.ifCond .ge 7, 3) := dk_156 0 7 (dk_at dksX12_bySum_2 0 rfl rfl)
theorem dX12_bySum_48 : decode cX12_bySum 48 = .ok (.iconst 1, 1) := dk_4 (dk_at dksX12_bySum_2 3 rfl rfl)
theorem dX12_bySum_49 : decode cX12_bySum 49 = .ok (.goto 4, 3) := dk_167 0 4 (dk_at dksX12_bySum_2 4 rfl rfl)
theorem dX12_bySum_52 : decode cX12_bySum 52 = .ok (.iconst 0, 1) := dk_3 (dk_at dksX12_bySum_2 7 rfl rfl)
theorem dX12_bySum_53 : decode cX12_bySum 53 = .ok (.ireturn, 1) := dk_172 (dk_at dksX12_bySum_2 8 rfl rfl)
abbrev cX12_note : ByteArray := prog_19_method_20_code
def yX12_note : MethodName := ⟨RX12, "note", "(IIII)V"⟩
def dkwX12_note_3 : List UInt8 := [120, 167, 0, 4, 3, 128, 181, 0, 129, 177]
abbrev dktX12_note_3 : List UInt8 := dkwX12_note_3 ++ []
def dkwX12_note_2 : List UInt8 := [89, 180, 0, 92, 90, 4, 96, 181, 0, 92, 28, 79, 42, 89, 180, 0, 129, 29, 5, 160, 0, 9, 4, 28]
abbrev dktX12_note_2 : List UInt8 := dkwX12_note_2 ++ dktX12_note_3
def dkwX12_note_1 : List UInt8 := [28, 122, 4, 126, 154, 0, 32, 42, 89, 180, 0, 89, 4, 28, 120, 128, 181, 0, 89, 42, 180, 0, 62, 42]
abbrev dktX12_note_1 : List UInt8 := dkwX12_note_1 ++ dktX12_note_2
def dkwX12_note_0 : List UInt8 := [42, 180, 0, 52, 27, 29, 79, 42, 180, 0, 55, 27, 21, 4, 79, 29, 4, 160, 0, 43, 42, 180, 0, 89]
abbrev dktX12_note_0 : List UInt8 := dkwX12_note_0 ++ dktX12_note_1
theorem dksX12_note_0 : cX12_note.data.toList.drop 0 = dktX12_note_0 := by decide +kernel
theorem dksX12_note_1 : cX12_note.data.toList.drop 24 = dktX12_note_1 := dk_seg dksX12_note_0 24 rfl rfl
theorem dksX12_note_2 : cX12_note.data.toList.drop 48 = dktX12_note_2 := dk_seg dksX12_note_1 24 rfl rfl
theorem dksX12_note_3 : cX12_note.data.toList.drop 72 = dktX12_note_3 := dk_seg dksX12_note_2 24 rfl rfl
theorem dX12_note_0 : decode cX12_note 0 = .ok (.aload_n 0, 1) := dk_42 (dk_at dksX12_note_0 0 rfl rfl)
theorem dX12_note_1 : decode cX12_note 1 = .ok (.getfield 52, 3) := dk_180 0 52 (dk_at dksX12_note_0 1 rfl rfl)
theorem dX12_note_4 : decode cX12_note 4 = .ok (.iload_n 1, 1) := dk_27 (dk_at dksX12_note_0 4 rfl rfl)
theorem dX12_note_5 : decode cX12_note 5 = .ok (.iload_n 3, 1) := dk_29 (dk_at dksX12_note_0 5 rfl rfl)
theorem dX12_note_6 : decode cX12_note 6 = .ok (.iastore, 1) := dk_79 (dk_at dksX12_note_0 6 rfl rfl)
theorem dX12_note_7 : decode cX12_note 7 = .ok (.aload_n 0, 1) := dk_42 (dk_at dksX12_note_0 7 rfl rfl)
theorem dX12_note_8 : decode cX12_note 8 = .ok (.getfield 55, 3) := dk_180 0 55 (dk_at dksX12_note_0 8 rfl rfl)
theorem dX12_note_11 : decode cX12_note 11 = .ok (.iload_n 1, 1) := dk_27 (dk_at dksX12_note_0 11 rfl rfl)
theorem dX12_note_12 : decode cX12_note 12 = .ok (.iload 4, 2) := dk_21 4 (dk_at dksX12_note_0 12 rfl rfl)
theorem dX12_note_14 : decode cX12_note 14 = .ok (.iastore, 1) := dk_79 (dk_at dksX12_note_0 14 rfl rfl)
theorem dX12_note_15 : decode cX12_note 15 = .ok (.iload_n 3, 1) := dk_29 (dk_at dksX12_note_0 15 rfl rfl)
theorem dX12_note_16 : decode cX12_note 16 = .ok (.iconst 1, 1) := dk_4 (dk_at dksX12_note_0 16 rfl rfl)
theorem dX12_note_17 : decode cX12_note 17 = .ok (.if_icmp .ne 43, 3) := dk_160 0 43 (dk_at dksX12_note_0 17 rfl rfl)
theorem dX12_note_20 : decode cX12_note 20 = .ok (.aload_n 0, 1) := dk_42 (dk_at dksX12_note_0 20 rfl rfl)
theorem dX12_note_21 : decode cX12_note 21 = .ok (.getfield 89, 3) := dk_180 0 89 (dk_at dksX12_note_0 21 rfl rfl)
theorem dX12_note_24 : decode cX12_note 24 = .ok (.iload_n 2, 1) := dk_28 (dk_at dksX12_note_1 0 rfl rfl)
theorem dX12_note_25 : decode cX12_note 25 = .ok (.ishr, 1) := dk_122 (dk_at dksX12_note_1 1 rfl rfl)
theorem dX12_note_26 : decode cX12_note 26 = .ok (.iconst 1, 1) := dk_4 (dk_at dksX12_note_1 2 rfl rfl)
theorem dX12_note_27 : decode cX12_note 27 = .ok (.iand, 1) := dk_126 (dk_at dksX12_note_1 3 rfl rfl)
theorem dX12_note_28 : decode cX12_note 28 = .ok (.ifCond .ne 32, 3) := dk_154 0 32 (dk_at dksX12_note_1 4 rfl rfl)
theorem dX12_note_31 : decode cX12_note 31 = .ok (.aload_n 0, 1) := dk_42 (dk_at dksX12_note_1 7 rfl rfl)
theorem dX12_note_32 : decode cX12_note 32 = .ok (.dup, 1) := dk_89 (dk_at dksX12_note_1 8 rfl rfl)
theorem dX12_note_33 : decode cX12_note 33 = .ok (.getfield 89, 3) := dk_180 0 89 (dk_at dksX12_note_1 9 rfl rfl)
theorem dX12_note_36 : decode cX12_note 36 = .ok (.iconst 1, 1) := dk_4 (dk_at dksX12_note_1 12 rfl rfl)
theorem dX12_note_37 : decode cX12_note 37 = .ok (.iload_n 2, 1) := dk_28 (dk_at dksX12_note_1 13 rfl rfl)
theorem dX12_note_38 : decode cX12_note 38 = .ok (.ishl, 1) := dk_120 (dk_at dksX12_note_1 14 rfl rfl)
theorem dX12_note_39 : decode cX12_note 39 = .ok (.ior, 1) := dk_128 (dk_at dksX12_note_1 15 rfl rfl)
theorem dX12_note_40 : decode cX12_note 40 = .ok (.putfield 89, 3) := dk_181 0 89 (dk_at dksX12_note_1 16 rfl rfl)
theorem dX12_note_43 : decode cX12_note 43 = .ok (.aload_n 0, 1) := dk_42 (dk_at dksX12_note_1 19 rfl rfl)
theorem dX12_note_44 : decode cX12_note 44 = .ok (.getfield 62, 3) := dk_180 0 62 (dk_at dksX12_note_1 20 rfl rfl)
theorem dX12_note_47 : decode cX12_note 47 = .ok (.aload_n 0, 1) := dk_42 (dk_at dksX12_note_1 23 rfl rfl)
theorem dX12_note_48 : decode cX12_note 48 = .ok (.dup, 1) := dk_89 (dk_at dksX12_note_2 0 rfl rfl)
theorem dX12_note_49 : decode cX12_note 49 = .ok (.getfield 92, 3) := dk_180 0 92 (dk_at dksX12_note_2 1 rfl rfl)
theorem dX12_note_52 : decode cX12_note 52 = .ok (.dup_x1, 1) := dk_90 (dk_at dksX12_note_2 4 rfl rfl)
theorem dX12_note_53 : decode cX12_note 53 = .ok (.iconst 1, 1) := dk_4 (dk_at dksX12_note_2 5 rfl rfl)
theorem dX12_note_54 : decode cX12_note 54 = .ok (.iadd, 1) := dk_96 (dk_at dksX12_note_2 6 rfl rfl)
theorem dX12_note_55 : decode cX12_note 55 = .ok (.putfield 92, 3) := dk_181 0 92 (dk_at dksX12_note_2 7 rfl rfl)
theorem dX12_note_58 : decode cX12_note 58 = .ok (.iload_n 2, 1) := dk_28 (dk_at dksX12_note_2 10 rfl rfl)
theorem dX12_note_59 : decode cX12_note 59 = .ok (.iastore, 1) := dk_79 (dk_at dksX12_note_2 11 rfl rfl)
theorem dX12_note_60 : decode cX12_note 60 = .ok (.aload_n 0, 1) := dk_42 (dk_at dksX12_note_2 12 rfl rfl)
theorem dX12_note_61 : decode cX12_note 61 = .ok (.dup, 1) := dk_89 (dk_at dksX12_note_2 13 rfl rfl)
theorem dX12_note_62 : decode cX12_note 62 = .ok (.getfield 129, 3) := dk_180 0 129 (dk_at dksX12_note_2 14 rfl rfl)
theorem dX12_note_65 : decode cX12_note 65 = .ok (.iload_n 3, 1) := dk_29 (dk_at dksX12_note_2 17 rfl rfl)
theorem dX12_note_66 : decode cX12_note 66 = .ok (.iconst 2, 1) := dk_5 (dk_at dksX12_note_2 18 rfl rfl)
theorem dX12_note_67 : decode cX12_note 67 = .ok (.if_icmp .ne 9, 3) := dk_160 0 9 (dk_at dksX12_note_2 19 rfl rfl)
theorem dX12_note_70 : decode cX12_note 70 = .ok (.iconst 1, 1) := dk_4 (dk_at dksX12_note_2 22 rfl rfl)
theorem dX12_note_71 : decode cX12_note 71 = .ok (.iload_n 2, 1) := dk_28 (dk_at dksX12_note_2 23 rfl rfl)
theorem dX12_note_72 : decode cX12_note 72 = .ok (.ishl, 1) := dk_120 (dk_at dksX12_note_3 0 rfl rfl)
theorem dX12_note_73 : decode cX12_note 73 = .ok (.goto 4, 3) := dk_167 0 4 (dk_at dksX12_note_3 1 rfl rfl)
theorem dX12_note_76 : decode cX12_note 76 = .ok (.iconst 0, 1) := dk_3 (dk_at dksX12_note_3 4 rfl rfl)
theorem dX12_note_77 : decode cX12_note 77 = .ok (.ior, 1) := dk_128 (dk_at dksX12_note_3 5 rfl rfl)
theorem dX12_note_78 : decode cX12_note 78 = .ok (.putfield 129, 3) := dk_181 0 129 (dk_at dksX12_note_3 6 rfl rfl)
theorem dX12_note_81 : decode cX12_note 81 = .ok (.return_, 1) := dk_177 (dk_at dksX12_note_3 9 rfl rfl)
abbrev cX12_verdict : ByteArray := prog_19_method_23_code
def yX12_verdict : MethodName := ⟨RX12, "verdict", "()I"⟩
def dkwX12_verdict_1 : List UInt8 := [172, 132, 1, 1, 167, 255, 233, 42, 180, 0, 92, 172]
abbrev dktX12_verdict_1 : List UInt8 := dkwX12_verdict_1 ++ []
def dkwX12_verdict_0 : List UInt8 := [42, 182, 0, 174, 60, 27, 42, 182, 0, 178, 162, 0, 21, 42, 27, 182, 0, 198, 153, 0, 7, 2, 27, 100]
abbrev dktX12_verdict_0 : List UInt8 := dkwX12_verdict_0 ++ dktX12_verdict_1
theorem dksX12_verdict_0 : cX12_verdict.data.toList.drop 0 = dktX12_verdict_0 := by decide +kernel
theorem dksX12_verdict_1 : cX12_verdict.data.toList.drop 24 = dktX12_verdict_1 := dk_seg dksX12_verdict_0 24 rfl rfl
theorem dX12_verdict_0 : decode cX12_verdict 0 = .ok (.aload_n 0, 1) := dk_42 (dk_at dksX12_verdict_0 0 rfl rfl)
theorem dX12_verdict_1 : decode cX12_verdict 1 = .ok (.invokevirtual 174, 3) := dk_182 0 174 (dk_at dksX12_verdict_0 1 rfl rfl)
theorem dX12_verdict_4 : decode cX12_verdict 4 = .ok (.istore_n 1, 1) := dk_60 (dk_at dksX12_verdict_0 4 rfl rfl)
theorem dX12_verdict_5 : decode cX12_verdict 5 = .ok (.iload_n 1, 1) := dk_27 (dk_at dksX12_verdict_0 5 rfl rfl)
theorem dX12_verdict_6 : decode cX12_verdict 6 = .ok (.aload_n 0, 1) := dk_42 (dk_at dksX12_verdict_0 6 rfl rfl)
theorem dX12_verdict_7 : decode cX12_verdict 7 = .ok (.invokevirtual 178, 3) := dk_182 0 178 (dk_at dksX12_verdict_0 7 rfl rfl)
theorem dX12_verdict_10 : decode cX12_verdict 10 = .ok (.if_icmp .ge 21, 3) := dk_162 0 21 (dk_at dksX12_verdict_0 10 rfl rfl)
theorem dX12_verdict_13 : decode cX12_verdict 13 = .ok (.aload_n 0, 1) := dk_42 (dk_at dksX12_verdict_0 13 rfl rfl)
theorem dX12_verdict_14 : decode cX12_verdict 14 = .ok (.iload_n 1, 1) := dk_27 (dk_at dksX12_verdict_0 14 rfl rfl)
theorem dX12_verdict_15 : decode cX12_verdict 15 = .ok (.invokevirtual 198, 3) := dk_182 0 198 (dk_at dksX12_verdict_0 15 rfl rfl)
theorem dX12_verdict_18 : decode cX12_verdict 18 = .ok (.ifCond .eq 7, 3) := dk_153 0 7 (dk_at dksX12_verdict_0 18 rfl rfl)
theorem dX12_verdict_21 : decode cX12_verdict 21 = .ok (.iconst (-1), 1) := dk_2 (dk_at dksX12_verdict_0 21 rfl rfl)
theorem dX12_verdict_22 : decode cX12_verdict 22 = .ok (.iload_n 1, 1) := dk_27 (dk_at dksX12_verdict_0 22 rfl rfl)
theorem dX12_verdict_23 : decode cX12_verdict 23 = .ok (.isub, 1) := dk_100 (dk_at dksX12_verdict_0 23 rfl rfl)
theorem dX12_verdict_24 : decode cX12_verdict 24 = .ok (.ireturn, 1) := dk_172 (dk_at dksX12_verdict_1 0 rfl rfl)
theorem dX12_verdict_25 : decode cX12_verdict 25 = .ok (.iinc 1 1, 3) := dk_132 1 1 (dk_at dksX12_verdict_1 1 rfl rfl)
theorem dX12_verdict_28 : decode cX12_verdict 28 = .ok (.goto (-23), 3) := dk_167 255 233 (dk_at dksX12_verdict_1 4 rfl rfl)
theorem dX12_verdict_31 : decode cX12_verdict 31 = .ok (.aload_n 0, 1) := dk_42 (dk_at dksX12_verdict_1 7 rfl rfl)
theorem dX12_verdict_32 : decode cX12_verdict 32 = .ok (.getfield 92, 3) := dk_180 0 92 (dk_at dksX12_verdict_1 8 rfl rfl)
theorem dX12_verdict_35 : decode cX12_verdict 35 = .ok (.ireturn, 1) := dk_172 (dk_at dksX12_verdict_1 11 rfl rfl)
abbrev cX12_isOpen : ByteArray := prog_19_method_22_code
def yX12_isOpen : MethodName := ⟨RX12, "isOpen", "(I)Z"⟩
def dkwX12_isOpen_1 : List UInt8 := [4, 126, 154, 0, 7, 4, 167, 0, 4, 3, 172]
abbrev dktX12_isOpen_1 : List UInt8 := dkwX12_isOpen_1 ++ []
def dkwX12_isOpen_0 : List UInt8 := [42, 180, 0, 52, 27, 46, 5, 160, 0, 26, 42, 180, 0, 89, 42, 180, 0, 26, 180, 0, 185, 27, 46, 122]
abbrev dktX12_isOpen_0 : List UInt8 := dkwX12_isOpen_0 ++ dktX12_isOpen_1
theorem dksX12_isOpen_0 : cX12_isOpen.data.toList.drop 0 = dktX12_isOpen_0 := by decide +kernel
theorem dksX12_isOpen_1 : cX12_isOpen.data.toList.drop 24 = dktX12_isOpen_1 := dk_seg dksX12_isOpen_0 24 rfl rfl
theorem dX12_isOpen_0 : decode cX12_isOpen 0 = .ok (.aload_n 0, 1) := dk_42 (dk_at dksX12_isOpen_0 0 rfl rfl)
theorem dX12_isOpen_1 : decode cX12_isOpen 1 = .ok (.getfield 52, 3) := dk_180 0 52 (dk_at dksX12_isOpen_0 1 rfl rfl)
theorem dX12_isOpen_4 : decode cX12_isOpen 4 = .ok (.iload_n 1, 1) := dk_27 (dk_at dksX12_isOpen_0 4 rfl rfl)
theorem dX12_isOpen_5 : decode cX12_isOpen 5 = .ok (.iaload, 1) := dk_46 (dk_at dksX12_isOpen_0 5 rfl rfl)
theorem dX12_isOpen_6 : decode cX12_isOpen 6 = .ok (.iconst 2, 1) := dk_5 (dk_at dksX12_isOpen_0 6 rfl rfl)
theorem dX12_isOpen_7 : decode cX12_isOpen 7 = .ok (.if_icmp .ne 26, 3) := dk_160 0 26 (dk_at dksX12_isOpen_0 7 rfl rfl)
theorem dX12_isOpen_10 : decode cX12_isOpen 10 = .ok (.aload_n 0, 1) := dk_42 (dk_at dksX12_isOpen_0 10 rfl rfl)
theorem dX12_isOpen_11 : decode cX12_isOpen 11 = .ok (.getfield 89, 3) := dk_180 0 89 (dk_at dksX12_isOpen_0 11 rfl rfl)
theorem dX12_isOpen_14 : decode cX12_isOpen 14 = .ok (.aload_n 0, 1) := dk_42 (dk_at dksX12_isOpen_0 14 rfl rfl)
theorem dX12_isOpen_15 : decode cX12_isOpen 15 = .ok (.getfield 26, 3) := dk_180 0 26 (dk_at dksX12_isOpen_0 15 rfl rfl)
theorem dX12_isOpen_18 : decode cX12_isOpen 18 = .ok (.getfield 185, 3) := dk_180 0 185 (dk_at dksX12_isOpen_0 18 rfl rfl)
theorem dX12_isOpen_21 : decode cX12_isOpen 21 = .ok (.iload_n 1, 1) := dk_27 (dk_at dksX12_isOpen_0 21 rfl rfl)
theorem dX12_isOpen_22 : decode cX12_isOpen 22 = .ok (.iaload, 1) := dk_46 (dk_at dksX12_isOpen_0 22 rfl rfl)
theorem dX12_isOpen_23 : decode cX12_isOpen 23 = .ok (.ishr, 1) := dk_122 (dk_at dksX12_isOpen_0 23 rfl rfl)
theorem dX12_isOpen_24 : decode cX12_isOpen 24 = .ok (.iconst 1, 1) := dk_4 (dk_at dksX12_isOpen_1 0 rfl rfl)
theorem dX12_isOpen_25 : decode cX12_isOpen 25 = .ok (.iand, 1) := dk_126 (dk_at dksX12_isOpen_1 1 rfl rfl)
theorem dX12_isOpen_26 : decode cX12_isOpen 26 = .ok (.ifCond .ne 7, 3) := dk_154 0 7 (dk_at dksX12_isOpen_1 2 rfl rfl)
theorem dX12_isOpen_29 : decode cX12_isOpen 29 = .ok (.iconst 1, 1) := dk_4 (dk_at dksX12_isOpen_1 5 rfl rfl)
theorem dX12_isOpen_30 : decode cX12_isOpen 30 = .ok (.goto 4, 3) := dk_167 0 4 (dk_at dksX12_isOpen_1 6 rfl rfl)
theorem dX12_isOpen_33 : decode cX12_isOpen 33 = .ok (.iconst 0, 1) := dk_3 (dk_at dksX12_isOpen_1 9 rfl rfl)
theorem dX12_isOpen_34 : decode cX12_isOpen 34 = .ok (.ireturn, 1) := dk_172 (dk_at dksX12_isOpen_1 10 rfl rfl)
abbrev cX12_walk : ByteArray := prog_19_method_27_code
def yX12_walk : MethodName := ⟨RX12, "walk", "(J)I"⟩
def dkwX12_walk_2 : List UInt8 := [132, 3, 1, 167, 255, 212, 42, 182, 0, 195, 172]
abbrev dktX12_walk_2 : List UInt8 := dkwX12_walk_2 ++ []
def dkwX12_walk_1 : List UInt8 := [162, 0, 24, 42, 21, 4, 29, 154, 0, 7, 4, 167, 0, 4, 3, 182, 0, 255, 132, 4, 1, 167, 255, 229]
abbrev dktX12_walk_1 : List UInt8 := dkwX12_walk_1 ++ dktX12_walk_2
def dkwX12_walk_0 : List UInt8 := [42, 31, 182, 0, 170, 3, 62, 29, 5, 162, 0, 45, 42, 182, 0, 174, 54, 4, 21, 4, 42, 182, 0, 178]
abbrev dktX12_walk_0 : List UInt8 := dkwX12_walk_0 ++ dktX12_walk_1
theorem dksX12_walk_0 : cX12_walk.data.toList.drop 0 = dktX12_walk_0 := by decide +kernel
theorem dksX12_walk_1 : cX12_walk.data.toList.drop 24 = dktX12_walk_1 := dk_seg dksX12_walk_0 24 rfl rfl
theorem dksX12_walk_2 : cX12_walk.data.toList.drop 48 = dktX12_walk_2 := dk_seg dksX12_walk_1 24 rfl rfl
theorem dX12_walk_0 : decode cX12_walk 0 = .ok (.aload_n 0, 1) := dk_42 (dk_at dksX12_walk_0 0 rfl rfl)
theorem dX12_walk_1 : decode cX12_walk 1 = .ok (.lload_n 1, 1) := dk_31 (dk_at dksX12_walk_0 1 rfl rfl)
theorem dX12_walk_2 : decode cX12_walk 2 = .ok (.invokevirtual 170, 3) := dk_182 0 170 (dk_at dksX12_walk_0 2 rfl rfl)
theorem dX12_walk_5 : decode cX12_walk 5 = .ok (.iconst 0, 1) := dk_3 (dk_at dksX12_walk_0 5 rfl rfl)
theorem dX12_walk_6 : decode cX12_walk 6 = .ok (.istore_n 3, 1) := dk_62 (dk_at dksX12_walk_0 6 rfl rfl)
theorem dX12_walk_7 : decode cX12_walk 7 = .ok (.iload_n 3, 1) := dk_29 (dk_at dksX12_walk_0 7 rfl rfl)
theorem dX12_walk_8 : decode cX12_walk 8 = .ok (.iconst 2, 1) := dk_5 (dk_at dksX12_walk_0 8 rfl rfl)
theorem dX12_walk_9 : decode cX12_walk 9 = .ok (.if_icmp .ge 45, 3) := dk_162 0 45 (dk_at dksX12_walk_0 9 rfl rfl)
theorem dX12_walk_12 : decode cX12_walk 12 = .ok (.aload_n 0, 1) := dk_42 (dk_at dksX12_walk_0 12 rfl rfl)
theorem dX12_walk_13 : decode cX12_walk 13 = .ok (.invokevirtual 174, 3) := dk_182 0 174 (dk_at dksX12_walk_0 13 rfl rfl)
theorem dX12_walk_16 : decode cX12_walk 16 = .ok (.istore 4, 2) := dk_54 4 (dk_at dksX12_walk_0 16 rfl rfl)
theorem dX12_walk_18 : decode cX12_walk 18 = .ok (.iload 4, 2) := dk_21 4 (dk_at dksX12_walk_0 18 rfl rfl)
theorem dX12_walk_20 : decode cX12_walk 20 = .ok (.aload_n 0, 1) := dk_42 (dk_at dksX12_walk_0 20 rfl rfl)
theorem dX12_walk_21 : decode cX12_walk 21 = .ok (.invokevirtual 178, 3) := dk_182 0 178 (dk_at dksX12_walk_0 21 rfl rfl)
theorem dX12_walk_24 : decode cX12_walk 24 = .ok (.if_icmp .ge 24, 3) := dk_162 0 24 (dk_at dksX12_walk_1 0 rfl rfl)
theorem dX12_walk_27 : decode cX12_walk 27 = .ok (.aload_n 0, 1) := dk_42 (dk_at dksX12_walk_1 3 rfl rfl)
theorem dX12_walk_28 : decode cX12_walk 28 = .ok (.iload 4, 2) := dk_21 4 (dk_at dksX12_walk_1 4 rfl rfl)
theorem dX12_walk_30 : decode cX12_walk 30 = .ok (.iload_n 3, 1) := dk_29 (dk_at dksX12_walk_1 6 rfl rfl)
theorem dX12_walk_31 : decode cX12_walk 31 = .ok (.ifCond .ne 7, 3) := dk_154 0 7 (dk_at dksX12_walk_1 7 rfl rfl)
theorem dX12_walk_34 : decode cX12_walk 34 = .ok (.iconst 1, 1) := dk_4 (dk_at dksX12_walk_1 10 rfl rfl)
theorem dX12_walk_35 : decode cX12_walk 35 = .ok (.goto 4, 3) := dk_167 0 4 (dk_at dksX12_walk_1 11 rfl rfl)
theorem dX12_walk_38 : decode cX12_walk 38 = .ok (.iconst 0, 1) := dk_3 (dk_at dksX12_walk_1 14 rfl rfl)
theorem dX12_walk_39 : decode cX12_walk 39 = .ok (.invokevirtual 255, 3) := dk_182 0 255 (dk_at dksX12_walk_1 15 rfl rfl)
theorem dX12_walk_42 : decode cX12_walk 42 = .ok (.iinc 4 1, 3) := dk_132 4 1 (dk_at dksX12_walk_1 18 rfl rfl)
theorem dX12_walk_45 : decode cX12_walk 45 = .ok (.goto (-27), 3) := dk_167 255 229 (dk_at dksX12_walk_1 21 rfl rfl)
theorem dX12_walk_48 : decode cX12_walk 48 = .ok (.iinc 3 1, 3) := dk_132 3 1 (dk_at dksX12_walk_2 0 rfl rfl)
theorem dX12_walk_51 : decode cX12_walk 51 = .ok (.goto (-44), 3) := dk_167 255 212 (dk_at dksX12_walk_2 3 rfl rfl)
theorem dX12_walk_54 : decode cX12_walk 54 = .ok (.aload_n 0, 1) := dk_42 (dk_at dksX12_walk_2 6 rfl rfl)
theorem dX12_walk_55 : decode cX12_walk 55 = .ok (.invokevirtual 195, 3) := dk_182 0 195 (dk_at dksX12_walk_2 7 rfl rfl)
theorem dX12_walk_58 : decode cX12_walk 58 = .ok (.ireturn, 1) := dk_172 (dk_at dksX12_walk_2 10 rfl rfl)
abbrev cX12_walkRule : ByteArray := prog_19_method_26_code
def yX12_walkRule : MethodName := ⟨RX12, "walkRule", "(IZ)V"⟩
def dkwX12_walkRule_10 : List UInt8 := [21, 7, 2, 159, 0, 7, 5, 167, 0, 4, 4, 21, 7, 182, 0, 191, 177]
abbrev dktX12_walkRule_10 : List UInt8 := dkwX12_walkRule_10 ++ []
def dkwX12_walkRule_9 : List UInt8 := [3, 54, 9, 42, 27, 29, 21, 9, 153, 0, 7, 6, 167, 0, 23, 21, 6, 153, 0, 7, 3, 167, 0, 14]
abbrev dktX12_walkRule_9 : List UInt8 := dkwX12_walkRule_9 ++ dktX12_walkRule_10
def dkwX12_walkRule_8 : List UInt8 := [167, 0, 64, 42, 180, 0, 164, 29, 122, 4, 126, 4, 160, 0, 12, 21, 4, 154, 0, 7, 4, 167, 0, 4]
abbrev dktX12_walkRule_8 : List UInt8 := dkwX12_walkRule_8 ++ dktX12_walkRule_9
def dkwX12_walkRule_7 : List UInt8 := [180, 0, 164, 21, 4, 153, 0, 14, 21, 5, 153, 0, 9, 4, 29, 120, 167, 0, 4, 3, 128, 181, 0, 164]
abbrev dktX12_walkRule_7 : List UInt8 := dkwX12_walkRule_7 ++ dktX12_walkRule_8
def dkwX12_walkRule_6 : List UInt8 := [180, 0, 16, 42, 180, 0, 205, 178, 0, 252, 182, 0, 224, 54, 8, 167, 255, 137, 28, 153, 0, 32, 42, 89]
abbrev dktX12_walkRule_6 : List UInt8 := dkwX12_walkRule_6 ++ dktX12_walkRule_7
def dkwX12_walkRule_5 : List UInt8 := [5, 160, 0, 16, 21, 7, 2, 160, 0, 10, 42, 180, 0, 116, 167, 0, 5, 21, 7, 54, 7, 42]
abbrev dktX12_walkRule_5 : List UInt8 := dkwX12_walkRule_5 ++ dktX12_walkRule_6
def dkwX12_walkRule_4 : List UInt8 := [167, 0, 4, 3, 126, 54, 5, 21, 6, 21, 10, 154, 0, 7, 4, 167, 0, 4, 3, 128, 54, 6, 21, 10]
abbrev dktX12_walkRule_4 : List UInt8 := dkwX12_walkRule_4 ++ dktX12_walkRule_5
def dkwX12_walkRule_3 : List UInt8 := [54, 10, 21, 4, 21, 9, 128, 54, 4, 21, 5, 21, 9, 153, 0, 9, 21, 10, 5, 159, 0, 7, 4]
abbrev dktX12_walkRule_3 : List UInt8 := dkwX12_walkRule_3 ++ dktX12_walkRule_4
def dkwX12_walkRule_2 : List UInt8 := [181, 0, 205, 42, 180, 0, 16, 42, 180, 0, 205, 178, 0, 212, 182, 0, 224, 54, 9, 42, 182, 0, 249]
abbrev dktX12_walkRule_2 : List UInt8 := dkwX12_walkRule_2 ++ dktX12_walkRule_3
def dkwX12_walkRule_1 : List UInt8 := [54, 5, 3, 54, 6, 2, 54, 7, 4, 54, 8, 21, 8, 153, 0, 120, 42, 89, 180, 0, 205, 4, 96]
abbrev dktX12_walkRule_1 : List UInt8 := dkwX12_walkRule_1 ++ dktX12_walkRule_2
def dkwX12_walkRule_0 : List UInt8 := [42, 42, 180, 0, 26, 180, 0, 246, 27, 46, 4, 96, 181, 0, 205, 42, 182, 0, 218, 62, 3, 54, 4, 4]
abbrev dktX12_walkRule_0 : List UInt8 := dkwX12_walkRule_0 ++ dktX12_walkRule_1
theorem dksX12_walkRule_0 : cX12_walkRule.data.toList.drop 0 = dktX12_walkRule_0 := by decide +kernel
theorem dksX12_walkRule_1 : cX12_walkRule.data.toList.drop 24 = dktX12_walkRule_1 := dk_seg dksX12_walkRule_0 24 rfl rfl
theorem dksX12_walkRule_2 : cX12_walkRule.data.toList.drop 47 = dktX12_walkRule_2 := dk_seg dksX12_walkRule_1 23 rfl rfl
theorem dksX12_walkRule_3 : cX12_walkRule.data.toList.drop 70 = dktX12_walkRule_3 := dk_seg dksX12_walkRule_2 23 rfl rfl
theorem dksX12_walkRule_4 : cX12_walkRule.data.toList.drop 93 = dktX12_walkRule_4 := dk_seg dksX12_walkRule_3 23 rfl rfl
theorem dksX12_walkRule_5 : cX12_walkRule.data.toList.drop 117 = dktX12_walkRule_5 := dk_seg dksX12_walkRule_4 24 rfl rfl
theorem dksX12_walkRule_6 : cX12_walkRule.data.toList.drop 139 = dktX12_walkRule_6 := dk_seg dksX12_walkRule_5 22 rfl rfl
theorem dksX12_walkRule_7 : cX12_walkRule.data.toList.drop 163 = dktX12_walkRule_7 := dk_seg dksX12_walkRule_6 24 rfl rfl
theorem dksX12_walkRule_8 : cX12_walkRule.data.toList.drop 187 = dktX12_walkRule_8 := dk_seg dksX12_walkRule_7 24 rfl rfl
theorem dksX12_walkRule_9 : cX12_walkRule.data.toList.drop 211 = dktX12_walkRule_9 := dk_seg dksX12_walkRule_8 24 rfl rfl
theorem dksX12_walkRule_10 : cX12_walkRule.data.toList.drop 235 = dktX12_walkRule_10 := dk_seg dksX12_walkRule_9 24 rfl rfl
theorem dX12_walkRule_0 : decode cX12_walkRule 0 = .ok (.aload_n 0, 1) := dk_42 (dk_at dksX12_walkRule_0 0 rfl rfl)
theorem dX12_walkRule_1 : decode cX12_walkRule 1 = .ok (.aload_n 0, 1) := dk_42 (dk_at dksX12_walkRule_0 1 rfl rfl)
theorem dX12_walkRule_2 : decode cX12_walkRule 2 = .ok (.getfield 26, 3) := dk_180 0 26 (dk_at dksX12_walkRule_0 2 rfl rfl)
theorem dX12_walkRule_5 : decode cX12_walkRule 5 = .ok (.getfield 246, 3) := dk_180 0 246 (dk_at dksX12_walkRule_0 5 rfl rfl)
theorem dX12_walkRule_8 : decode cX12_walkRule 8 = .ok (.iload_n 1, 1) := dk_27 (dk_at dksX12_walkRule_0 8 rfl rfl)
theorem dX12_walkRule_9 : decode cX12_walkRule 9 = .ok (.iaload, 1) := dk_46 (dk_at dksX12_walkRule_0 9 rfl rfl)
theorem dX12_walkRule_10 : decode cX12_walkRule 10 = .ok (.iconst 1, 1) := dk_4 (dk_at dksX12_walkRule_0 10 rfl rfl)
theorem dX12_walkRule_11 : decode cX12_walkRule 11 = .ok (.iadd, 1) := dk_96 (dk_at dksX12_walkRule_0 11 rfl rfl)
theorem dX12_walkRule_12 : decode cX12_walkRule 12 = .ok (.putfield 205, 3) := dk_181 0 205 (dk_at dksX12_walkRule_0 12 rfl rfl)
theorem dX12_walkRule_15 : decode cX12_walkRule 15 = .ok (.aload_n 0, 1) := dk_42 (dk_at dksX12_walkRule_0 15 rfl rfl)
theorem dX12_walkRule_16 : decode cX12_walkRule 16 = .ok (.invokevirtual 218, 3) := dk_182 0 218 (dk_at dksX12_walkRule_0 16 rfl rfl)
theorem dX12_walkRule_19 : decode cX12_walkRule 19 = .ok (.istore_n 3, 1) := dk_62 (dk_at dksX12_walkRule_0 19 rfl rfl)
theorem dX12_walkRule_20 : decode cX12_walkRule 20 = .ok (.iconst 0, 1) := dk_3 (dk_at dksX12_walkRule_0 20 rfl rfl)
theorem dX12_walkRule_21 : decode cX12_walkRule 21 = .ok (.istore 4, 2) := dk_54 4 (dk_at dksX12_walkRule_0 21 rfl rfl)
theorem dX12_walkRule_23 : decode cX12_walkRule 23 = .ok (.iconst 1, 1) := dk_4 (dk_at dksX12_walkRule_0 23 rfl rfl)
theorem dX12_walkRule_24 : decode cX12_walkRule 24 = .ok (.istore 5, 2) := dk_54 5 (dk_at dksX12_walkRule_1 0 rfl rfl)
theorem dX12_walkRule_26 : decode cX12_walkRule 26 = .ok (.iconst 0, 1) := dk_3 (dk_at dksX12_walkRule_1 2 rfl rfl)
theorem dX12_walkRule_27 : decode cX12_walkRule 27 = .ok (.istore 6, 2) := dk_54 6 (dk_at dksX12_walkRule_1 3 rfl rfl)
theorem dX12_walkRule_29 : decode cX12_walkRule 29 = .ok (.iconst (-1), 1) := dk_2 (dk_at dksX12_walkRule_1 5 rfl rfl)
theorem dX12_walkRule_30 : decode cX12_walkRule 30 = .ok (.istore 7, 2) := dk_54 7 (dk_at dksX12_walkRule_1 6 rfl rfl)
theorem dX12_walkRule_32 : decode cX12_walkRule 32 = .ok (.iconst 1, 1) := dk_4 (dk_at dksX12_walkRule_1 8 rfl rfl)
theorem dX12_walkRule_33 : decode cX12_walkRule 33 = .ok (.istore 8, 2) := dk_54 8 (dk_at dksX12_walkRule_1 9 rfl rfl)
theorem dX12_walkRule_35 : decode cX12_walkRule 35 = .ok (.iload 8, 2) := dk_21 8 (dk_at dksX12_walkRule_1 11 rfl rfl)
theorem dX12_walkRule_37 : decode cX12_walkRule 37 = .ok (.ifCond .eq 120, 3) := dk_153 0 120 (dk_at dksX12_walkRule_1 13 rfl rfl)
theorem dX12_walkRule_40 : decode cX12_walkRule 40 = .ok (.aload_n 0, 1) := dk_42 (dk_at dksX12_walkRule_1 16 rfl rfl)
theorem dX12_walkRule_41 : decode cX12_walkRule 41 = .ok (.dup, 1) := dk_89 (dk_at dksX12_walkRule_1 17 rfl rfl)
theorem dX12_walkRule_42 : decode cX12_walkRule 42 = .ok (.getfield 205, 3) := dk_180 0 205 (dk_at dksX12_walkRule_1 18 rfl rfl)
theorem dX12_walkRule_45 : decode cX12_walkRule 45 = .ok (.iconst 1, 1) := dk_4 (dk_at dksX12_walkRule_1 21 rfl rfl)
theorem dX12_walkRule_46 : decode cX12_walkRule 46 = .ok (.iadd, 1) := dk_96 (dk_at dksX12_walkRule_1 22 rfl rfl)
theorem dX12_walkRule_47 : decode cX12_walkRule 47 = .ok (.putfield 205, 3) := dk_181 0 205 (dk_at dksX12_walkRule_2 0 rfl rfl)
theorem dX12_walkRule_50 : decode cX12_walkRule 50 = .ok (.aload_n 0, 1) := dk_42 (dk_at dksX12_walkRule_2 3 rfl rfl)
theorem dX12_walkRule_51 : decode cX12_walkRule 51 = .ok (.getfield 16, 3) := dk_180 0 16 (dk_at dksX12_walkRule_2 4 rfl rfl)
theorem dX12_walkRule_54 : decode cX12_walkRule 54 = .ok (.aload_n 0, 1) := dk_42 (dk_at dksX12_walkRule_2 7 rfl rfl)
theorem dX12_walkRule_55 : decode cX12_walkRule 55 = .ok (.getfield 205, 3) := dk_180 0 205 (dk_at dksX12_walkRule_2 8 rfl rfl)
theorem dX12_walkRule_58 : decode cX12_walkRule 58 = .ok (.getstatic 212, 3) := dk_178 0 212 (dk_at dksX12_walkRule_2 11 rfl rfl)
theorem dX12_walkRule_61 : decode cX12_walkRule 61 = .ok (.invokevirtual 224, 3) := dk_182 0 224 (dk_at dksX12_walkRule_2 14 rfl rfl)
theorem dX12_walkRule_64 : decode cX12_walkRule 64 = .ok (.istore 9, 2) := dk_54 9 (dk_at dksX12_walkRule_2 17 rfl rfl)
theorem dX12_walkRule_66 : decode cX12_walkRule 66 = .ok (.aload_n 0, 1) := dk_42 (dk_at dksX12_walkRule_2 19 rfl rfl)
theorem dX12_walkRule_67 : decode cX12_walkRule 67 = .ok (.invokevirtual 249, 3) := dk_182 0 249 (dk_at dksX12_walkRule_2 20 rfl rfl)
theorem dX12_walkRule_70 : decode cX12_walkRule 70 = .ok (.istore 10, 2) := dk_54 10 (dk_at dksX12_walkRule_3 0 rfl rfl)
theorem dX12_walkRule_72 : decode cX12_walkRule 72 = .ok (.iload 4, 2) := dk_21 4 (dk_at dksX12_walkRule_3 2 rfl rfl)
theorem dX12_walkRule_74 : decode cX12_walkRule 74 = .ok (.iload 9, 2) := dk_21 9 (dk_at dksX12_walkRule_3 4 rfl rfl)
theorem dX12_walkRule_76 : decode cX12_walkRule 76 = .ok (.ior, 1) := dk_128 (dk_at dksX12_walkRule_3 6 rfl rfl)
theorem dX12_walkRule_77 : decode cX12_walkRule 77 = .ok (.istore 4, 2) := dk_54 4 (dk_at dksX12_walkRule_3 7 rfl rfl)
theorem dX12_walkRule_79 : decode cX12_walkRule 79 = .ok (.iload 5, 2) := dk_21 5 (dk_at dksX12_walkRule_3 9 rfl rfl)
theorem dX12_walkRule_81 : decode cX12_walkRule 81 = .ok (.iload 9, 2) := dk_21 9 (dk_at dksX12_walkRule_3 11 rfl rfl)
theorem dX12_walkRule_83 : decode cX12_walkRule 83 = .ok (.ifCond .eq 9, 3) := dk_153 0 9 (dk_at dksX12_walkRule_3 13 rfl rfl)
theorem dX12_walkRule_86 : decode cX12_walkRule 86 = .ok (.iload 10, 2) := dk_21 10 (dk_at dksX12_walkRule_3 16 rfl rfl)
theorem dX12_walkRule_88 : decode cX12_walkRule 88 = .ok (.iconst 2, 1) := dk_5 (dk_at dksX12_walkRule_3 18 rfl rfl)
theorem dX12_walkRule_89 : decode cX12_walkRule 89 = .ok (.if_icmp .eq 7, 3) := dk_159 0 7 (dk_at dksX12_walkRule_3 19 rfl rfl)
theorem dX12_walkRule_92 : decode cX12_walkRule 92 = .ok (.iconst 1, 1) := dk_4 (dk_at dksX12_walkRule_3 22 rfl rfl)
theorem dX12_walkRule_93 : decode cX12_walkRule 93 = .ok (.goto 4, 3) := dk_167 0 4 (dk_at dksX12_walkRule_4 0 rfl rfl)
theorem dX12_walkRule_96 : decode cX12_walkRule 96 = .ok (.iconst 0, 1) := dk_3 (dk_at dksX12_walkRule_4 3 rfl rfl)
theorem dX12_walkRule_97 : decode cX12_walkRule 97 = .ok (.iand, 1) := dk_126 (dk_at dksX12_walkRule_4 4 rfl rfl)
theorem dX12_walkRule_98 : decode cX12_walkRule 98 = .ok (.istore 5, 2) := dk_54 5 (dk_at dksX12_walkRule_4 5 rfl rfl)
theorem dX12_walkRule_100 : decode cX12_walkRule 100 = .ok (.iload 6, 2) := dk_21 6 (dk_at dksX12_walkRule_4 7 rfl rfl)
theorem dX12_walkRule_102 : decode cX12_walkRule 102 = .ok (.iload 10, 2) := dk_21 10 (dk_at dksX12_walkRule_4 9 rfl rfl)
theorem dX12_walkRule_104 : decode cX12_walkRule 104 = .ok (.ifCond .ne 7, 3) := dk_154 0 7 (dk_at dksX12_walkRule_4 11 rfl rfl)
theorem dX12_walkRule_107 : decode cX12_walkRule 107 = .ok (.iconst 1, 1) := dk_4 (dk_at dksX12_walkRule_4 14 rfl rfl)
theorem dX12_walkRule_108 : decode cX12_walkRule 108 = .ok (.goto 4, 3) := dk_167 0 4 (dk_at dksX12_walkRule_4 15 rfl rfl)
theorem dX12_walkRule_111 : decode cX12_walkRule 111 = .ok (.iconst 0, 1) := dk_3 (dk_at dksX12_walkRule_4 18 rfl rfl)
theorem dX12_walkRule_112 : decode cX12_walkRule 112 = .ok (.ior, 1) := dk_128 (dk_at dksX12_walkRule_4 19 rfl rfl)
theorem dX12_walkRule_113 : decode cX12_walkRule 113 = .ok (.istore 6, 2) := dk_54 6 (dk_at dksX12_walkRule_4 20 rfl rfl)
theorem dX12_walkRule_115 : decode cX12_walkRule 115 = .ok (.iload 10, 2) := dk_21 10 (dk_at dksX12_walkRule_4 22 rfl rfl)
theorem dX12_walkRule_117 : decode cX12_walkRule 117 = .ok (.iconst 2, 1) := dk_5 (dk_at dksX12_walkRule_5 0 rfl rfl)
theorem dX12_walkRule_118 : decode cX12_walkRule 118 = .ok (.if_icmp .ne 16, 3) := dk_160 0 16 (dk_at dksX12_walkRule_5 1 rfl rfl)
theorem dX12_walkRule_121 : decode cX12_walkRule 121 = .ok (.iload 7, 2) := dk_21 7 (dk_at dksX12_walkRule_5 4 rfl rfl)
theorem dX12_walkRule_123 : decode cX12_walkRule 123 = .ok (.iconst (-1), 1) := dk_2 (dk_at dksX12_walkRule_5 6 rfl rfl)
theorem dX12_walkRule_124 : decode cX12_walkRule 124 = .ok (.if_icmp .ne 10, 3) := dk_160 0 10 (dk_at dksX12_walkRule_5 7 rfl rfl)
theorem dX12_walkRule_127 : decode cX12_walkRule 127 = .ok (.aload_n 0, 1) := dk_42 (dk_at dksX12_walkRule_5 10 rfl rfl)
theorem dX12_walkRule_128 : decode cX12_walkRule 128 = .ok (.getfield 116, 3) := dk_180 0 116 (dk_at dksX12_walkRule_5 11 rfl rfl)
theorem dX12_walkRule_131 : decode cX12_walkRule 131 = .ok (.goto 5, 3) := dk_167 0 5 (dk_at dksX12_walkRule_5 14 rfl rfl)
theorem dX12_walkRule_134 : decode cX12_walkRule 134 = .ok (.iload 7, 2) := dk_21 7 (dk_at dksX12_walkRule_5 17 rfl rfl)
theorem dX12_walkRule_136 : decode cX12_walkRule 136 = .ok (.istore 7, 2) := dk_54 7 (dk_at dksX12_walkRule_5 19 rfl rfl)
theorem dX12_walkRule_138 : decode cX12_walkRule 138 = .ok (.aload_n 0, 1) := dk_42 (dk_at dksX12_walkRule_5 21 rfl rfl)
theorem dX12_walkRule_139 : decode cX12_walkRule 139 = .ok (.getfield 16, 3) := dk_180 0 16 (dk_at dksX12_walkRule_6 0 rfl rfl)
theorem dX12_walkRule_142 : decode cX12_walkRule 142 = .ok (.aload_n 0, 1) := dk_42 (dk_at dksX12_walkRule_6 3 rfl rfl)
theorem dX12_walkRule_143 : decode cX12_walkRule 143 = .ok (.getfield 205, 3) := dk_180 0 205 (dk_at dksX12_walkRule_6 4 rfl rfl)
theorem dX12_walkRule_146 : decode cX12_walkRule 146 = .ok (.getstatic 252, 3) := dk_178 0 252 (dk_at dksX12_walkRule_6 7 rfl rfl)
theorem dX12_walkRule_149 : decode cX12_walkRule 149 = .ok (.invokevirtual 224, 3) := dk_182 0 224 (dk_at dksX12_walkRule_6 10 rfl rfl)
theorem dX12_walkRule_152 : decode cX12_walkRule 152 = .ok (.istore 8, 2) := dk_54 8 (dk_at dksX12_walkRule_6 13 rfl rfl)
theorem dX12_walkRule_154 : decode cX12_walkRule 154 = .ok (.goto (-119), 3) := dk_167 255 137 (dk_at dksX12_walkRule_6 15 rfl rfl)
theorem dX12_walkRule_157 : decode cX12_walkRule 157 = .ok (.iload_n 2, 1) := dk_28 (dk_at dksX12_walkRule_6 18 rfl rfl)
theorem dX12_walkRule_158 : decode cX12_walkRule 158 = .ok (.ifCond .eq 32, 3) := dk_153 0 32 (dk_at dksX12_walkRule_6 19 rfl rfl)
theorem dX12_walkRule_161 : decode cX12_walkRule 161 = .ok (.aload_n 0, 1) := dk_42 (dk_at dksX12_walkRule_6 22 rfl rfl)
theorem dX12_walkRule_162 : decode cX12_walkRule 162 = .ok (.dup, 1) := dk_89 (dk_at dksX12_walkRule_6 23 rfl rfl)
theorem dX12_walkRule_163 : decode cX12_walkRule 163 = .ok (.getfield 164, 3) := dk_180 0 164 (dk_at dksX12_walkRule_7 0 rfl rfl)
theorem dX12_walkRule_166 : decode cX12_walkRule 166 = .ok (.iload 4, 2) := dk_21 4 (dk_at dksX12_walkRule_7 3 rfl rfl)
theorem dX12_walkRule_168 : decode cX12_walkRule 168 = .ok (.ifCond .eq 14, 3) := dk_153 0 14 (dk_at dksX12_walkRule_7 5 rfl rfl)
theorem dX12_walkRule_171 : decode cX12_walkRule 171 = .ok (.iload 5, 2) := dk_21 5 (dk_at dksX12_walkRule_7 8 rfl rfl)
theorem dX12_walkRule_173 : decode cX12_walkRule 173 = .ok (.ifCond .eq 9, 3) := dk_153 0 9 (dk_at dksX12_walkRule_7 10 rfl rfl)
theorem dX12_walkRule_176 : decode cX12_walkRule 176 = .ok (.iconst 1, 1) := dk_4 (dk_at dksX12_walkRule_7 13 rfl rfl)
theorem dX12_walkRule_177 : decode cX12_walkRule 177 = .ok (.iload_n 3, 1) := dk_29 (dk_at dksX12_walkRule_7 14 rfl rfl)
theorem dX12_walkRule_178 : decode cX12_walkRule 178 = .ok (.ishl, 1) := dk_120 (dk_at dksX12_walkRule_7 15 rfl rfl)
theorem dX12_walkRule_179 : decode cX12_walkRule 179 = .ok (.goto 4, 3) := dk_167 0 4 (dk_at dksX12_walkRule_7 16 rfl rfl)
theorem dX12_walkRule_182 : decode cX12_walkRule 182 = .ok (.iconst 0, 1) := dk_3 (dk_at dksX12_walkRule_7 19 rfl rfl)
theorem dX12_walkRule_183 : decode cX12_walkRule 183 = .ok (.ior, 1) := dk_128 (dk_at dksX12_walkRule_7 20 rfl rfl)
theorem dX12_walkRule_184 : decode cX12_walkRule 184 = .ok (.putfield 164, 3) := dk_181 0 164 (dk_at dksX12_walkRule_7 21 rfl rfl)
theorem dX12_walkRule_187 : decode cX12_walkRule 187 = .ok (.goto 64, 3) := dk_167 0 64 (dk_at dksX12_walkRule_8 0 rfl rfl)
theorem dX12_walkRule_190 : decode cX12_walkRule 190 = .ok (.aload_n 0, 1) := dk_42 (dk_at dksX12_walkRule_8 3 rfl rfl)
theorem dX12_walkRule_191 : decode cX12_walkRule 191 = .ok (.getfield 164, 3) := dk_180 0 164 (dk_at dksX12_walkRule_8 4 rfl rfl)
theorem dX12_walkRule_194 : decode cX12_walkRule 194 = .ok (.iload_n 3, 1) := dk_29 (dk_at dksX12_walkRule_8 7 rfl rfl)
theorem dX12_walkRule_195 : decode cX12_walkRule 195 = .ok (.ishr, 1) := dk_122 (dk_at dksX12_walkRule_8 8 rfl rfl)
theorem dX12_walkRule_196 : decode cX12_walkRule 196 = .ok (.iconst 1, 1) := dk_4 (dk_at dksX12_walkRule_8 9 rfl rfl)
theorem dX12_walkRule_197 : decode cX12_walkRule 197 = .ok (.iand, 1) := dk_126 (dk_at dksX12_walkRule_8 10 rfl rfl)
theorem dX12_walkRule_198 : decode cX12_walkRule 198 = .ok (.iconst 1, 1) := dk_4 (dk_at dksX12_walkRule_8 11 rfl rfl)
theorem dX12_walkRule_199 : decode cX12_walkRule 199 = .ok (.if_icmp .ne 12, 3) := dk_160 0 12 (dk_at dksX12_walkRule_8 12 rfl rfl)
theorem dX12_walkRule_202 : decode cX12_walkRule 202 = .ok (.iload 4, 2) := dk_21 4 (dk_at dksX12_walkRule_8 15 rfl rfl)
theorem dX12_walkRule_204 : decode cX12_walkRule 204 = .ok (.ifCond .ne 7, 3) := dk_154 0 7 (dk_at dksX12_walkRule_8 17 rfl rfl)
theorem dX12_walkRule_207 : decode cX12_walkRule 207 = .ok (.iconst 1, 1) := dk_4 (dk_at dksX12_walkRule_8 20 rfl rfl)
theorem dX12_walkRule_208 : decode cX12_walkRule 208 = .ok (.goto 4, 3) := dk_167 0 4 (dk_at dksX12_walkRule_8 21 rfl rfl)
theorem dX12_walkRule_211 : decode cX12_walkRule 211 = .ok (.iconst 0, 1) := dk_3 (dk_at dksX12_walkRule_9 0 rfl rfl)
theorem dX12_walkRule_212 : decode cX12_walkRule 212 = .ok (.istore 9, 2) := dk_54 9 (dk_at dksX12_walkRule_9 1 rfl rfl)
theorem dX12_walkRule_214 : decode cX12_walkRule 214 = .ok (.aload_n 0, 1) := dk_42 (dk_at dksX12_walkRule_9 3 rfl rfl)
theorem dX12_walkRule_215 : decode cX12_walkRule 215 = .ok (.iload_n 1, 1) := dk_27 (dk_at dksX12_walkRule_9 4 rfl rfl)
theorem dX12_walkRule_216 : decode cX12_walkRule 216 = .ok (.iload_n 3, 1) := dk_29 (dk_at dksX12_walkRule_9 5 rfl rfl)
theorem dX12_walkRule_217 : decode cX12_walkRule 217 = .ok (.iload 9, 2) := dk_21 9 (dk_at dksX12_walkRule_9 6 rfl rfl)
theorem dX12_walkRule_219 : decode cX12_walkRule 219 = .ok (.ifCond .eq 7, 3) := dk_153 0 7 (dk_at dksX12_walkRule_9 8 rfl rfl)
theorem dX12_walkRule_222 : decode cX12_walkRule 222 = .ok (.iconst 3, 1) := dk_6 (dk_at dksX12_walkRule_9 11 rfl rfl)
theorem dX12_walkRule_223 : decode cX12_walkRule 223 = .ok (.goto 23, 3) := dk_167 0 23 (dk_at dksX12_walkRule_9 12 rfl rfl)
theorem dX12_walkRule_226 : decode cX12_walkRule 226 = .ok (.iload 6, 2) := dk_21 6 (dk_at dksX12_walkRule_9 15 rfl rfl)
theorem dX12_walkRule_228 : decode cX12_walkRule 228 = .ok (.ifCond .eq 7, 3) := dk_153 0 7 (dk_at dksX12_walkRule_9 17 rfl rfl)
theorem dX12_walkRule_231 : decode cX12_walkRule 231 = .ok (.iconst 0, 1) := dk_3 (dk_at dksX12_walkRule_9 20 rfl rfl)
theorem dX12_walkRule_232 : decode cX12_walkRule 232 = .ok (.goto 14, 3) := dk_167 0 14 (dk_at dksX12_walkRule_9 21 rfl rfl)
theorem dX12_walkRule_235 : decode cX12_walkRule 235 = .ok (.iload 7, 2) := dk_21 7 (dk_at dksX12_walkRule_10 0 rfl rfl)
theorem dX12_walkRule_237 : decode cX12_walkRule 237 = .ok (.iconst (-1), 1) := dk_2 (dk_at dksX12_walkRule_10 2 rfl rfl)
theorem dX12_walkRule_238 : decode cX12_walkRule 238 = .ok (.if_icmp .eq 7, 3) := dk_159 0 7 (dk_at dksX12_walkRule_10 3 rfl rfl)
theorem dX12_walkRule_241 : decode cX12_walkRule 241 = .ok (.iconst 2, 1) := dk_5 (dk_at dksX12_walkRule_10 6 rfl rfl)
theorem dX12_walkRule_242 : decode cX12_walkRule 242 = .ok (.goto 4, 3) := dk_167 0 4 (dk_at dksX12_walkRule_10 7 rfl rfl)
theorem dX12_walkRule_245 : decode cX12_walkRule 245 = .ok (.iconst 1, 1) := dk_4 (dk_at dksX12_walkRule_10 10 rfl rfl)
theorem dX12_walkRule_246 : decode cX12_walkRule 246 = .ok (.iload 7, 2) := dk_21 7 (dk_at dksX12_walkRule_10 11 rfl rfl)
theorem dX12_walkRule_248 : decode cX12_walkRule 248 = .ok (.invokevirtual 191, 3) := dk_182 0 191 (dk_at dksX12_walkRule_10 13 rfl rfl)
theorem dX12_walkRule_251 : decode cX12_walkRule 251 = .ok (.return_, 1) := dk_177 (dk_at dksX12_walkRule_10 16 rfl rfl)
abbrev cX12_walkNumber : ByteArray := prog_19_method_24_code
def yX12_walkNumber : MethodName := ⟨RX12, "walkNumber", "()I"⟩
def dkwX12_walkNumber_0 : List UInt8 := [42, 180, 0, 16, 180, 0, 202, 42, 89, 180, 0, 205, 90, 4, 96, 181, 0, 205, 46, 172]
abbrev dktX12_walkNumber_0 : List UInt8 := dkwX12_walkNumber_0 ++ []
theorem dksX12_walkNumber_0 : cX12_walkNumber.data.toList.drop 0 = dktX12_walkNumber_0 := by decide +kernel
theorem dX12_walkNumber_0 : decode cX12_walkNumber 0 = .ok (.aload_n 0, 1) := dk_42 (dk_at dksX12_walkNumber_0 0 rfl rfl)
theorem dX12_walkNumber_1 : decode cX12_walkNumber 1 = .ok (.getfield 16, 3) := dk_180 0 16 (dk_at dksX12_walkNumber_0 1 rfl rfl)
theorem dX12_walkNumber_4 : decode cX12_walkNumber 4 = .ok (.getfield 202, 3) := dk_180 0 202 (dk_at dksX12_walkNumber_0 4 rfl rfl)
theorem dX12_walkNumber_7 : decode cX12_walkNumber 7 = .ok (.aload_n 0, 1) := dk_42 (dk_at dksX12_walkNumber_0 7 rfl rfl)
theorem dX12_walkNumber_8 : decode cX12_walkNumber 8 = .ok (.dup, 1) := dk_89 (dk_at dksX12_walkNumber_0 8 rfl rfl)
theorem dX12_walkNumber_9 : decode cX12_walkNumber 9 = .ok (.getfield 205, 3) := dk_180 0 205 (dk_at dksX12_walkNumber_0 9 rfl rfl)
theorem dX12_walkNumber_12 : decode cX12_walkNumber 12 = .ok (.dup_x1, 1) := dk_90 (dk_at dksX12_walkNumber_0 12 rfl rfl)
theorem dX12_walkNumber_13 : decode cX12_walkNumber 13 = .ok (.iconst 1, 1) := dk_4 (dk_at dksX12_walkNumber_0 13 rfl rfl)
theorem dX12_walkNumber_14 : decode cX12_walkNumber 14 = .ok (.iadd, 1) := dk_96 (dk_at dksX12_walkNumber_0 14 rfl rfl)
theorem dX12_walkNumber_15 : decode cX12_walkNumber 15 = .ok (.putfield 205, 3) := dk_181 0 205 (dk_at dksX12_walkNumber_0 15 rfl rfl)
theorem dX12_walkNumber_18 : decode cX12_walkNumber 18 = .ok (.iaload, 1) := dk_46 (dk_at dksX12_walkNumber_0 18 rfl rfl)
theorem dX12_walkNumber_19 : decode cX12_walkNumber 19 = .ok (.ireturn, 1) := dk_172 (dk_at dksX12_walkNumber_0 19 rfl rfl)
abbrev cX12_walkItem : ByteArray := prog_19_method_25_code
def yX12_walkItem : MethodName := ⟨RX12, "walkItem", "()I"⟩
def dkwX12_walkItem_16 : List UInt8 := [182, 0, 153, 172]
abbrev dktX12_walkItem_16 : List UInt8 := dkwX12_walkItem_16 ++ []
def dkwX12_walkItem_15 : List UInt8 := [182, 0, 224, 54, 7, 42, 21, 6, 181, 0, 116, 42, 21, 7, 42, 182, 0, 218, 133, 32, 22, 4]
abbrev dktX12_walkItem_15 : List UInt8 := dkwX12_walkItem_15 ++ dktX12_walkItem_16
def dkwX12_walkItem_14 : List UInt8 := [55, 4, 167, 255, 14, 42, 180, 0, 16, 42, 89, 180, 0, 205, 90, 4, 96, 181, 0, 205, 178, 0, 243]
abbrev dktX12_walkItem_14 : List UInt8 := dkwX12_walkItem_14 ++ dktX12_walkItem_15
def dkwX12_walkItem_13 : List UInt8 := [3, 182, 0, 112, 97, 65, 22, 4, 42, 21, 7, 21, 8, 21, 9, 21, 10, 21, 11, 4, 182, 0, 112, 97]
abbrev dktX12_walkItem_13 : List UInt8 := dkwX12_walkItem_13 ++ dktX12_walkItem_14
def dkwX12_walkItem_12 : List UInt8 := [167, 0, 4, 2, 54, 6, 21, 6, 2, 160, 0, 41, 32, 42, 21, 7, 21, 8, 21, 9, 21, 10, 21, 11]
abbrev dktX12_walkItem_12 : List UInt8 := dkwX12_walkItem_12 ++ dktX12_walkItem_13
def dkwX12_walkItem_11 : List UInt8 := [21, 9, 46, 2, 160, 0, 8, 21, 9, 167, 0, 18, 21, 11, 154, 0, 12, 17, 0, 200, 21, 9, 96]
abbrev dktX12_walkItem_11 : List UInt8 := dkwX12_walkItem_11 ++ dktX12_walkItem_12
def dkwX12_walkItem_10 : List UInt8 := [180, 0, 205, 4, 96, 181, 0, 205, 42, 182, 0, 218, 54, 11, 21, 6, 2, 160, 0, 36, 42, 180, 0, 38]
abbrev dktX12_walkItem_10 : List UInt8 := dkwX12_walkItem_10 ++ dktX12_walkItem_11
def dkwX12_walkItem_9 : List UInt8 := [182, 0, 218, 54, 10, 42, 180, 0, 16, 42, 180, 0, 205, 178, 0, 240, 182, 0, 224, 153, 0, 19, 42, 89]
abbrev dktX12_walkItem_9 : List UInt8 := dkwX12_walkItem_9 ++ dktX12_walkItem_10
def dkwX12_walkItem_8 : List UInt8 := [180, 0, 205, 178, 0, 237, 182, 0, 224, 153, 0, 19, 42, 89, 180, 0, 205, 4, 96, 181, 0, 205, 42]
abbrev dktX12_walkItem_8 : List UInt8 := dkwX12_walkItem_8 ++ dktX12_walkItem_9
def dkwX12_walkItem_7 : List UInt8 := [4, 96, 181, 0, 205, 42, 182, 0, 218, 54, 9, 3, 54, 10, 2, 54, 11, 42, 180, 0, 16, 42]
abbrev dktX12_walkItem_7 : List UInt8 := dkwX12_walkItem_7 ++ dktX12_walkItem_8
def dkwX12_walkItem_6 : List UInt8 := [182, 0, 224, 153, 0, 7, 4, 167, 0, 4, 2, 54, 7, 42, 182, 0, 218, 54, 8, 42, 89, 180, 0, 205]
abbrev dktX12_walkItem_6 : List UInt8 := dkwX12_walkItem_6 ++ dktX12_walkItem_7
def dkwX12_walkItem_5 : List UInt8 := [182, 0, 224, 153, 0, 214, 42, 180, 0, 16, 42, 89, 180, 0, 205, 90, 4, 96, 181, 0, 205, 178, 0, 231]
abbrev dktX12_walkItem_5 : List UInt8 := dkwX12_walkItem_5 ++ dktX12_walkItem_6
def dkwX12_walkItem_4 : List UInt8 := [42, 180, 0, 205, 178, 0, 231, 182, 0, 224, 154, 0, 20, 42, 180, 0, 16, 42, 180, 0, 205, 178, 0, 234]
abbrev dktX12_walkItem_4 : List UInt8 := dkwX12_walkItem_4 ++ dktX12_walkItem_5
def dkwX12_walkItem_3 : List UInt8 := [166, 0, 12, 42, 42, 182, 0, 218, 182, 0, 145, 172, 9, 65, 9, 55, 4, 2, 54, 6, 42, 180, 0, 16]
abbrev dktX12_walkItem_3 : List UInt8 := dkwX12_walkItem_3 ++ dktX12_walkItem_4
def dkwX12_walkItem_2 : List UInt8 := [178, 0, 221, 182, 0, 224, 62, 42, 28, 29, 42, 182, 0, 218, 182, 0, 141, 172, 43, 178, 0, 228]
abbrev dktX12_walkItem_2 : List UInt8 := dkwX12_walkItem_2 ++ dktX12_walkItem_3
def dkwX12_walkItem_1 : List UInt8 := [166, 0, 41, 42, 182, 0, 218, 61, 42, 180, 0, 16, 42, 89, 180, 0, 205, 90, 4, 96, 181, 0, 205]
abbrev dktX12_walkItem_1 : List UInt8 := dkwX12_walkItem_1 ++ dktX12_walkItem_2
def dkwX12_walkItem_0 : List UInt8 := [42, 180, 0, 16, 180, 0, 208, 42, 89, 180, 0, 205, 90, 4, 96, 181, 0, 205, 50, 76, 43, 178, 0, 212]
abbrev dktX12_walkItem_0 : List UInt8 := dkwX12_walkItem_0 ++ dktX12_walkItem_1
theorem dksX12_walkItem_0 : cX12_walkItem.data.toList.drop 0 = dktX12_walkItem_0 := by decide +kernel
theorem dksX12_walkItem_1 : cX12_walkItem.data.toList.drop 24 = dktX12_walkItem_1 := dk_seg dksX12_walkItem_0 24 rfl rfl
theorem dksX12_walkItem_2 : cX12_walkItem.data.toList.drop 47 = dktX12_walkItem_2 := dk_seg dksX12_walkItem_1 23 rfl rfl
theorem dksX12_walkItem_3 : cX12_walkItem.data.toList.drop 69 = dktX12_walkItem_3 := dk_seg dksX12_walkItem_2 22 rfl rfl
theorem dksX12_walkItem_4 : cX12_walkItem.data.toList.drop 93 = dktX12_walkItem_4 := dk_seg dksX12_walkItem_3 24 rfl rfl
theorem dksX12_walkItem_5 : cX12_walkItem.data.toList.drop 117 = dktX12_walkItem_5 := dk_seg dksX12_walkItem_4 24 rfl rfl
theorem dksX12_walkItem_6 : cX12_walkItem.data.toList.drop 141 = dktX12_walkItem_6 := dk_seg dksX12_walkItem_5 24 rfl rfl
theorem dksX12_walkItem_7 : cX12_walkItem.data.toList.drop 165 = dktX12_walkItem_7 := dk_seg dksX12_walkItem_6 24 rfl rfl
theorem dksX12_walkItem_8 : cX12_walkItem.data.toList.drop 187 = dktX12_walkItem_8 := dk_seg dksX12_walkItem_7 22 rfl rfl
theorem dksX12_walkItem_9 : cX12_walkItem.data.toList.drop 210 = dktX12_walkItem_9 := dk_seg dksX12_walkItem_8 23 rfl rfl
theorem dksX12_walkItem_10 : cX12_walkItem.data.toList.drop 234 = dktX12_walkItem_10 := dk_seg dksX12_walkItem_9 24 rfl rfl
theorem dksX12_walkItem_11 : cX12_walkItem.data.toList.drop 258 = dktX12_walkItem_11 := dk_seg dksX12_walkItem_10 24 rfl rfl
theorem dksX12_walkItem_12 : cX12_walkItem.data.toList.drop 281 = dktX12_walkItem_12 := dk_seg dksX12_walkItem_11 23 rfl rfl
theorem dksX12_walkItem_13 : cX12_walkItem.data.toList.drop 305 = dktX12_walkItem_13 := dk_seg dksX12_walkItem_12 24 rfl rfl
theorem dksX12_walkItem_14 : cX12_walkItem.data.toList.drop 329 = dktX12_walkItem_14 := dk_seg dksX12_walkItem_13 24 rfl rfl
theorem dksX12_walkItem_15 : cX12_walkItem.data.toList.drop 352 = dktX12_walkItem_15 := dk_seg dksX12_walkItem_14 23 rfl rfl
theorem dksX12_walkItem_16 : cX12_walkItem.data.toList.drop 374 = dktX12_walkItem_16 := dk_seg dksX12_walkItem_15 22 rfl rfl
theorem dX12_walkItem_0 : decode cX12_walkItem 0 = .ok (.aload_n 0, 1) := dk_42 (dk_at dksX12_walkItem_0 0 rfl rfl)
theorem dX12_walkItem_1 : decode cX12_walkItem 1 = .ok (.getfield 16, 3) := dk_180 0 16 (dk_at dksX12_walkItem_0 1 rfl rfl)
theorem dX12_walkItem_4 : decode cX12_walkItem 4 = .ok (.getfield 208, 3) := dk_180 0 208 (dk_at dksX12_walkItem_0 4 rfl rfl)
theorem dX12_walkItem_7 : decode cX12_walkItem 7 = .ok (.aload_n 0, 1) := dk_42 (dk_at dksX12_walkItem_0 7 rfl rfl)
theorem dX12_walkItem_8 : decode cX12_walkItem 8 = .ok (.dup, 1) := dk_89 (dk_at dksX12_walkItem_0 8 rfl rfl)
theorem dX12_walkItem_9 : decode cX12_walkItem 9 = .ok (.getfield 205, 3) := dk_180 0 205 (dk_at dksX12_walkItem_0 9 rfl rfl)
theorem dX12_walkItem_12 : decode cX12_walkItem 12 = .ok (.dup_x1, 1) := dk_90 (dk_at dksX12_walkItem_0 12 rfl rfl)
theorem dX12_walkItem_13 : decode cX12_walkItem 13 = .ok (.iconst 1, 1) := dk_4 (dk_at dksX12_walkItem_0 13 rfl rfl)
theorem dX12_walkItem_14 : decode cX12_walkItem 14 = .ok (.iadd, 1) := dk_96 (dk_at dksX12_walkItem_0 14 rfl rfl)
theorem dX12_walkItem_15 : decode cX12_walkItem 15 = .ok (.putfield 205, 3) := dk_181 0 205 (dk_at dksX12_walkItem_0 15 rfl rfl)
theorem dX12_walkItem_18 : decode cX12_walkItem 18 = .ok (.aaload, 1) := dk_50 (dk_at dksX12_walkItem_0 18 rfl rfl)
theorem dX12_walkItem_19 : decode cX12_walkItem 19 = .ok (.astore_n 1, 1) := dk_76 (dk_at dksX12_walkItem_0 19 rfl rfl)
theorem dX12_walkItem_20 : decode cX12_walkItem 20 = .ok (.aload_n 1, 1) := dk_43 (dk_at dksX12_walkItem_0 20 rfl rfl)
theorem dX12_walkItem_21 : decode cX12_walkItem 21 = .ok (.getstatic 212, 3) := dk_178 0 212 (dk_at dksX12_walkItem_0 21 rfl rfl)
theorem dX12_walkItem_24 : decode cX12_walkItem 24 = .ok (.if_acmp .ne 41, 3) := dk_166 0 41 (dk_at dksX12_walkItem_1 0 rfl rfl)
theorem dX12_walkItem_27 : decode cX12_walkItem 27 = .ok (.aload_n 0, 1) := dk_42 (dk_at dksX12_walkItem_1 3 rfl rfl)
theorem dX12_walkItem_28 : decode cX12_walkItem 28 = .ok (.invokevirtual 218, 3) := dk_182 0 218 (dk_at dksX12_walkItem_1 4 rfl rfl)
theorem dX12_walkItem_31 : decode cX12_walkItem 31 = .ok (.istore_n 2, 1) := dk_61 (dk_at dksX12_walkItem_1 7 rfl rfl)
theorem dX12_walkItem_32 : decode cX12_walkItem 32 = .ok (.aload_n 0, 1) := dk_42 (dk_at dksX12_walkItem_1 8 rfl rfl)
theorem dX12_walkItem_33 : decode cX12_walkItem 33 = .ok (.getfield 16, 3) := dk_180 0 16 (dk_at dksX12_walkItem_1 9 rfl rfl)
theorem dX12_walkItem_36 : decode cX12_walkItem 36 = .ok (.aload_n 0, 1) := dk_42 (dk_at dksX12_walkItem_1 12 rfl rfl)
theorem dX12_walkItem_37 : decode cX12_walkItem 37 = .ok (.dup, 1) := dk_89 (dk_at dksX12_walkItem_1 13 rfl rfl)
theorem dX12_walkItem_38 : decode cX12_walkItem 38 = .ok (.getfield 205, 3) := dk_180 0 205 (dk_at dksX12_walkItem_1 14 rfl rfl)
theorem dX12_walkItem_41 : decode cX12_walkItem 41 = .ok (.dup_x1, 1) := dk_90 (dk_at dksX12_walkItem_1 17 rfl rfl)
theorem dX12_walkItem_42 : decode cX12_walkItem 42 = .ok (.iconst 1, 1) := dk_4 (dk_at dksX12_walkItem_1 18 rfl rfl)
theorem dX12_walkItem_43 : decode cX12_walkItem 43 = .ok (.iadd, 1) := dk_96 (dk_at dksX12_walkItem_1 19 rfl rfl)
theorem dX12_walkItem_44 : decode cX12_walkItem 44 = .ok (.putfield 205, 3) := dk_181 0 205 (dk_at dksX12_walkItem_1 20 rfl rfl)
theorem dX12_walkItem_47 : decode cX12_walkItem 47 = .ok (.getstatic 221, 3) := dk_178 0 221 (dk_at dksX12_walkItem_2 0 rfl rfl)
theorem dX12_walkItem_50 : decode cX12_walkItem 50 = .ok (.invokevirtual 224, 3) := dk_182 0 224 (dk_at dksX12_walkItem_2 3 rfl rfl)
theorem dX12_walkItem_53 : decode cX12_walkItem 53 = .ok (.istore_n 3, 1) := dk_62 (dk_at dksX12_walkItem_2 6 rfl rfl)
theorem dX12_walkItem_54 : decode cX12_walkItem 54 = .ok (.aload_n 0, 1) := dk_42 (dk_at dksX12_walkItem_2 7 rfl rfl)
theorem dX12_walkItem_55 : decode cX12_walkItem 55 = .ok (.iload_n 2, 1) := dk_28 (dk_at dksX12_walkItem_2 8 rfl rfl)
theorem dX12_walkItem_56 : decode cX12_walkItem 56 = .ok (.iload_n 3, 1) := dk_29 (dk_at dksX12_walkItem_2 9 rfl rfl)
theorem dX12_walkItem_57 : decode cX12_walkItem 57 = .ok (.aload_n 0, 1) := dk_42 (dk_at dksX12_walkItem_2 10 rfl rfl)
theorem dX12_walkItem_58 : decode cX12_walkItem 58 = .ok (.invokevirtual 218, 3) := dk_182 0 218 (dk_at dksX12_walkItem_2 11 rfl rfl)
theorem dX12_walkItem_61 : decode cX12_walkItem 61 = .ok (.invokevirtual 141, 3) := dk_182 0 141 (dk_at dksX12_walkItem_2 14 rfl rfl)
theorem dX12_walkItem_64 : decode cX12_walkItem 64 = .ok (.ireturn, 1) := dk_172 (dk_at dksX12_walkItem_2 17 rfl rfl)
theorem dX12_walkItem_65 : decode cX12_walkItem 65 = .ok (.aload_n 1, 1) := dk_43 (dk_at dksX12_walkItem_2 18 rfl rfl)
theorem dX12_walkItem_66 : decode cX12_walkItem 66 = .ok (.getstatic 228, 3) := dk_178 0 228 (dk_at dksX12_walkItem_2 19 rfl rfl)
theorem dX12_walkItem_69 : decode cX12_walkItem 69 = .ok (.if_acmp .ne 12, 3) := dk_166 0 12 (dk_at dksX12_walkItem_3 0 rfl rfl)
theorem dX12_walkItem_72 : decode cX12_walkItem 72 = .ok (.aload_n 0, 1) := dk_42 (dk_at dksX12_walkItem_3 3 rfl rfl)
theorem dX12_walkItem_73 : decode cX12_walkItem 73 = .ok (.aload_n 0, 1) := dk_42 (dk_at dksX12_walkItem_3 4 rfl rfl)
theorem dX12_walkItem_74 : decode cX12_walkItem 74 = .ok (.invokevirtual 218, 3) := dk_182 0 218 (dk_at dksX12_walkItem_3 5 rfl rfl)
theorem dX12_walkItem_77 : decode cX12_walkItem 77 = .ok (.invokevirtual 145, 3) := dk_182 0 145 (dk_at dksX12_walkItem_3 8 rfl rfl)
theorem dX12_walkItem_80 : decode cX12_walkItem 80 = .ok (.ireturn, 1) := dk_172 (dk_at dksX12_walkItem_3 11 rfl rfl)
theorem dX12_walkItem_81 : decode cX12_walkItem 81 = .ok (.lconst 0, 1) := dk_9 (dk_at dksX12_walkItem_3 12 rfl rfl)
theorem dX12_walkItem_82 : decode cX12_walkItem 82 = .ok (.lstore_n 2, 1) := dk_65 (dk_at dksX12_walkItem_3 13 rfl rfl)
theorem dX12_walkItem_83 : decode cX12_walkItem 83 = .ok (.lconst 0, 1) := dk_9 (dk_at dksX12_walkItem_3 14 rfl rfl)
theorem dX12_walkItem_84 : decode cX12_walkItem 84 = .ok (.lstore 4, 2) := dk_55 4 (dk_at dksX12_walkItem_3 15 rfl rfl)
theorem dX12_walkItem_86 : decode cX12_walkItem 86 = .ok (.iconst (-1), 1) := dk_2 (dk_at dksX12_walkItem_3 17 rfl rfl)
theorem dX12_walkItem_87 : decode cX12_walkItem 87 = .ok (.istore 6, 2) := dk_54 6 (dk_at dksX12_walkItem_3 18 rfl rfl)
theorem dX12_walkItem_89 : decode cX12_walkItem 89 = .ok (.aload_n 0, 1) := dk_42 (dk_at dksX12_walkItem_3 20 rfl rfl)
theorem dX12_walkItem_90 : decode cX12_walkItem 90 = .ok (.getfield 16, 3) := dk_180 0 16 (dk_at dksX12_walkItem_3 21 rfl rfl)
theorem dX12_walkItem_93 : decode cX12_walkItem 93 = .ok (.aload_n 0, 1) := dk_42 (dk_at dksX12_walkItem_4 0 rfl rfl)
theorem dX12_walkItem_94 : decode cX12_walkItem 94 = .ok (.getfield 205, 3) := dk_180 0 205 (dk_at dksX12_walkItem_4 1 rfl rfl)
theorem dX12_walkItem_97 : decode cX12_walkItem 97 = .ok (.getstatic 231, 3) := dk_178 0 231 (dk_at dksX12_walkItem_4 4 rfl rfl)
theorem dX12_walkItem_100 : decode cX12_walkItem 100 = .ok (.invokevirtual 224, 3) := dk_182 0 224 (dk_at dksX12_walkItem_4 7 rfl rfl)
theorem dX12_walkItem_103 : decode cX12_walkItem 103 = .ok (.ifCond .ne 20, 3) := dk_154 0 20 (dk_at dksX12_walkItem_4 10 rfl rfl)
theorem dX12_walkItem_106 : decode cX12_walkItem 106 = .ok (.aload_n 0, 1) := dk_42 (dk_at dksX12_walkItem_4 13 rfl rfl)
theorem dX12_walkItem_107 : decode cX12_walkItem 107 = .ok (.getfield 16, 3) := dk_180 0 16 (dk_at dksX12_walkItem_4 14 rfl rfl)
theorem dX12_walkItem_110 : decode cX12_walkItem 110 = .ok (.aload_n 0, 1) := dk_42 (dk_at dksX12_walkItem_4 17 rfl rfl)
theorem dX12_walkItem_111 : decode cX12_walkItem 111 = .ok (.getfield 205, 3) := dk_180 0 205 (dk_at dksX12_walkItem_4 18 rfl rfl)
theorem dX12_walkItem_114 : decode cX12_walkItem 114 = .ok (.getstatic 234, 3) := dk_178 0 234 (dk_at dksX12_walkItem_4 21 rfl rfl)
theorem dX12_walkItem_117 : decode cX12_walkItem 117 = .ok (.invokevirtual 224, 3) := dk_182 0 224 (dk_at dksX12_walkItem_5 0 rfl rfl)
theorem dX12_walkItem_120 : decode cX12_walkItem 120 = .ok (.ifCond .eq 214, 3) := dk_153 0 214 (dk_at dksX12_walkItem_5 3 rfl rfl)
theorem dX12_walkItem_123 : decode cX12_walkItem 123 = .ok (.aload_n 0, 1) := dk_42 (dk_at dksX12_walkItem_5 6 rfl rfl)
theorem dX12_walkItem_124 : decode cX12_walkItem 124 = .ok (.getfield 16, 3) := dk_180 0 16 (dk_at dksX12_walkItem_5 7 rfl rfl)
theorem dX12_walkItem_127 : decode cX12_walkItem 127 = .ok (.aload_n 0, 1) := dk_42 (dk_at dksX12_walkItem_5 10 rfl rfl)
theorem dX12_walkItem_128 : decode cX12_walkItem 128 = .ok (.dup, 1) := dk_89 (dk_at dksX12_walkItem_5 11 rfl rfl)
theorem dX12_walkItem_129 : decode cX12_walkItem 129 = .ok (.getfield 205, 3) := dk_180 0 205 (dk_at dksX12_walkItem_5 12 rfl rfl)
theorem dX12_walkItem_132 : decode cX12_walkItem 132 = .ok (.dup_x1, 1) := dk_90 (dk_at dksX12_walkItem_5 15 rfl rfl)
theorem dX12_walkItem_133 : decode cX12_walkItem 133 = .ok (.iconst 1, 1) := dk_4 (dk_at dksX12_walkItem_5 16 rfl rfl)
theorem dX12_walkItem_134 : decode cX12_walkItem 134 = .ok (.iadd, 1) := dk_96 (dk_at dksX12_walkItem_5 17 rfl rfl)
theorem dX12_walkItem_135 : decode cX12_walkItem 135 = .ok (.putfield 205, 3) := dk_181 0 205 (dk_at dksX12_walkItem_5 18 rfl rfl)
theorem dX12_walkItem_138 : decode cX12_walkItem 138 = .ok (.getstatic 231, 3) := dk_178 0 231 (dk_at dksX12_walkItem_5 21 rfl rfl)
theorem dX12_walkItem_141 : decode cX12_walkItem 141 = .ok (.invokevirtual 224, 3) := dk_182 0 224 (dk_at dksX12_walkItem_6 0 rfl rfl)
theorem dX12_walkItem_144 : decode cX12_walkItem 144 = .ok (.ifCond .eq 7, 3) := dk_153 0 7 (dk_at dksX12_walkItem_6 3 rfl rfl)
theorem dX12_walkItem_147 : decode cX12_walkItem 147 = .ok (.iconst 1, 1) := dk_4 (dk_at dksX12_walkItem_6 6 rfl rfl)
theorem dX12_walkItem_148 : decode cX12_walkItem 148 = .ok (.goto 4, 3) := dk_167 0 4 (dk_at dksX12_walkItem_6 7 rfl rfl)
theorem dX12_walkItem_151 : decode cX12_walkItem 151 = .ok (.iconst (-1), 1) := dk_2 (dk_at dksX12_walkItem_6 10 rfl rfl)
theorem dX12_walkItem_152 : decode cX12_walkItem 152 = .ok (.istore 7, 2) := dk_54 7 (dk_at dksX12_walkItem_6 11 rfl rfl)
theorem dX12_walkItem_154 : decode cX12_walkItem 154 = .ok (.aload_n 0, 1) := dk_42 (dk_at dksX12_walkItem_6 13 rfl rfl)
theorem dX12_walkItem_155 : decode cX12_walkItem 155 = .ok (.invokevirtual 218, 3) := dk_182 0 218 (dk_at dksX12_walkItem_6 14 rfl rfl)
theorem dX12_walkItem_158 : decode cX12_walkItem 158 = .ok (.istore 8, 2) := dk_54 8 (dk_at dksX12_walkItem_6 17 rfl rfl)
theorem dX12_walkItem_160 : decode cX12_walkItem 160 = .ok (.aload_n 0, 1) := dk_42 (dk_at dksX12_walkItem_6 19 rfl rfl)
theorem dX12_walkItem_161 : decode cX12_walkItem 161 = .ok (.dup, 1) := dk_89 (dk_at dksX12_walkItem_6 20 rfl rfl)
theorem dX12_walkItem_162 : decode cX12_walkItem 162 = .ok (.getfield 205, 3) := dk_180 0 205 (dk_at dksX12_walkItem_6 21 rfl rfl)
theorem dX12_walkItem_165 : decode cX12_walkItem 165 = .ok (.iconst 1, 1) := dk_4 (dk_at dksX12_walkItem_7 0 rfl rfl)
theorem dX12_walkItem_166 : decode cX12_walkItem 166 = .ok (.iadd, 1) := dk_96 (dk_at dksX12_walkItem_7 1 rfl rfl)
theorem dX12_walkItem_167 : decode cX12_walkItem 167 = .ok (.putfield 205, 3) := dk_181 0 205 (dk_at dksX12_walkItem_7 2 rfl rfl)
theorem dX12_walkItem_170 : decode cX12_walkItem 170 = .ok (.aload_n 0, 1) := dk_42 (dk_at dksX12_walkItem_7 5 rfl rfl)
theorem dX12_walkItem_171 : decode cX12_walkItem 171 = .ok (.invokevirtual 218, 3) := dk_182 0 218 (dk_at dksX12_walkItem_7 6 rfl rfl)
theorem dX12_walkItem_174 : decode cX12_walkItem 174 = .ok (.istore 9, 2) := dk_54 9 (dk_at dksX12_walkItem_7 9 rfl rfl)
theorem dX12_walkItem_176 : decode cX12_walkItem 176 = .ok (.iconst 0, 1) := dk_3 (dk_at dksX12_walkItem_7 11 rfl rfl)
theorem dX12_walkItem_177 : decode cX12_walkItem 177 = .ok (.istore 10, 2) := dk_54 10 (dk_at dksX12_walkItem_7 12 rfl rfl)
theorem dX12_walkItem_179 : decode cX12_walkItem 179 = .ok (.iconst (-1), 1) := dk_2 (dk_at dksX12_walkItem_7 14 rfl rfl)
theorem dX12_walkItem_180 : decode cX12_walkItem 180 = .ok (.istore 11, 2) := dk_54 11 (dk_at dksX12_walkItem_7 15 rfl rfl)
theorem dX12_walkItem_182 : decode cX12_walkItem 182 = .ok (.aload_n 0, 1) := dk_42 (dk_at dksX12_walkItem_7 17 rfl rfl)
theorem dX12_walkItem_183 : decode cX12_walkItem 183 = .ok (.getfield 16, 3) := dk_180 0 16 (dk_at dksX12_walkItem_7 18 rfl rfl)
theorem dX12_walkItem_186 : decode cX12_walkItem 186 = .ok (.aload_n 0, 1) := dk_42 (dk_at dksX12_walkItem_7 21 rfl rfl)
theorem dX12_walkItem_187 : decode cX12_walkItem 187 = .ok (.getfield 205, 3) := dk_180 0 205 (dk_at dksX12_walkItem_8 0 rfl rfl)
theorem dX12_walkItem_190 : decode cX12_walkItem 190 = .ok (.getstatic 237, 3) := dk_178 0 237 (dk_at dksX12_walkItem_8 3 rfl rfl)
theorem dX12_walkItem_193 : decode cX12_walkItem 193 = .ok (.invokevirtual 224, 3) := dk_182 0 224 (dk_at dksX12_walkItem_8 6 rfl rfl)
theorem dX12_walkItem_196 : decode cX12_walkItem 196 = .ok (.ifCond .eq 19, 3) := dk_153 0 19 (dk_at dksX12_walkItem_8 9 rfl rfl)
theorem dX12_walkItem_199 : decode cX12_walkItem 199 = .ok (.aload_n 0, 1) := dk_42 (dk_at dksX12_walkItem_8 12 rfl rfl)
theorem dX12_walkItem_200 : decode cX12_walkItem 200 = .ok (.dup, 1) := dk_89 (dk_at dksX12_walkItem_8 13 rfl rfl)
theorem dX12_walkItem_201 : decode cX12_walkItem 201 = .ok (.getfield 205, 3) := dk_180 0 205 (dk_at dksX12_walkItem_8 14 rfl rfl)
theorem dX12_walkItem_204 : decode cX12_walkItem 204 = .ok (.iconst 1, 1) := dk_4 (dk_at dksX12_walkItem_8 17 rfl rfl)
theorem dX12_walkItem_205 : decode cX12_walkItem 205 = .ok (.iadd, 1) := dk_96 (dk_at dksX12_walkItem_8 18 rfl rfl)
theorem dX12_walkItem_206 : decode cX12_walkItem 206 = .ok (.putfield 205, 3) := dk_181 0 205 (dk_at dksX12_walkItem_8 19 rfl rfl)
theorem dX12_walkItem_209 : decode cX12_walkItem 209 = .ok (.aload_n 0, 1) := dk_42 (dk_at dksX12_walkItem_8 22 rfl rfl)
theorem dX12_walkItem_210 : decode cX12_walkItem 210 = .ok (.invokevirtual 218, 3) := dk_182 0 218 (dk_at dksX12_walkItem_9 0 rfl rfl)
theorem dX12_walkItem_213 : decode cX12_walkItem 213 = .ok (.istore 10, 2) := dk_54 10 (dk_at dksX12_walkItem_9 3 rfl rfl)
theorem dX12_walkItem_215 : decode cX12_walkItem 215 = .ok (.aload_n 0, 1) := dk_42 (dk_at dksX12_walkItem_9 5 rfl rfl)
theorem dX12_walkItem_216 : decode cX12_walkItem 216 = .ok (.getfield 16, 3) := dk_180 0 16 (dk_at dksX12_walkItem_9 6 rfl rfl)
theorem dX12_walkItem_219 : decode cX12_walkItem 219 = .ok (.aload_n 0, 1) := dk_42 (dk_at dksX12_walkItem_9 9 rfl rfl)
theorem dX12_walkItem_220 : decode cX12_walkItem 220 = .ok (.getfield 205, 3) := dk_180 0 205 (dk_at dksX12_walkItem_9 10 rfl rfl)
theorem dX12_walkItem_223 : decode cX12_walkItem 223 = .ok (.getstatic 240, 3) := dk_178 0 240 (dk_at dksX12_walkItem_9 13 rfl rfl)
theorem dX12_walkItem_226 : decode cX12_walkItem 226 = .ok (.invokevirtual 224, 3) := dk_182 0 224 (dk_at dksX12_walkItem_9 16 rfl rfl)
theorem dX12_walkItem_229 : decode cX12_walkItem 229 = .ok (.ifCond .eq 19, 3) := dk_153 0 19 (dk_at dksX12_walkItem_9 19 rfl rfl)
theorem dX12_walkItem_232 : decode cX12_walkItem 232 = .ok (.aload_n 0, 1) := dk_42 (dk_at dksX12_walkItem_9 22 rfl rfl)
theorem dX12_walkItem_233 : decode cX12_walkItem 233 = .ok (.dup, 1) := dk_89 (dk_at dksX12_walkItem_9 23 rfl rfl)
theorem dX12_walkItem_234 : decode cX12_walkItem 234 = .ok (.getfield 205, 3) := dk_180 0 205 (dk_at dksX12_walkItem_10 0 rfl rfl)
theorem dX12_walkItem_237 : decode cX12_walkItem 237 = .ok (.iconst 1, 1) := dk_4 (dk_at dksX12_walkItem_10 3 rfl rfl)
theorem dX12_walkItem_238 : decode cX12_walkItem 238 = .ok (.iadd, 1) := dk_96 (dk_at dksX12_walkItem_10 4 rfl rfl)
theorem dX12_walkItem_239 : decode cX12_walkItem 239 = .ok (.putfield 205, 3) := dk_181 0 205 (dk_at dksX12_walkItem_10 5 rfl rfl)
theorem dX12_walkItem_242 : decode cX12_walkItem 242 = .ok (.aload_n 0, 1) := dk_42 (dk_at dksX12_walkItem_10 8 rfl rfl)
theorem dX12_walkItem_243 : decode cX12_walkItem 243 = .ok (.invokevirtual 218, 3) := dk_182 0 218 (dk_at dksX12_walkItem_10 9 rfl rfl)
theorem dX12_walkItem_246 : decode cX12_walkItem 246 = .ok (.istore 11, 2) := dk_54 11 (dk_at dksX12_walkItem_10 12 rfl rfl)
theorem dX12_walkItem_248 : decode cX12_walkItem 248 = .ok (.iload 6, 2) := dk_21 6 (dk_at dksX12_walkItem_10 14 rfl rfl)
theorem dX12_walkItem_250 : decode cX12_walkItem 250 = .ok (.iconst (-1), 1) := dk_2 (dk_at dksX12_walkItem_10 16 rfl rfl)
theorem dX12_walkItem_251 : decode cX12_walkItem 251 = .ok (.if_icmp .ne 36, 3) := dk_160 0 36 (dk_at dksX12_walkItem_10 17 rfl rfl)
theorem dX12_walkItem_254 : decode cX12_walkItem 254 = .ok (.aload_n 0, 1) := dk_42 (dk_at dksX12_walkItem_10 20 rfl rfl)
theorem dX12_walkItem_255 : decode cX12_walkItem 255 = .ok (.getfield 38, 3) := dk_180 0 38 (dk_at dksX12_walkItem_10 21 rfl rfl)
theorem dX12_walkItem_258 : decode cX12_walkItem 258 = .ok (.iload 9, 2) := dk_21 9 (dk_at dksX12_walkItem_11 0 rfl rfl)
theorem dX12_walkItem_260 : decode cX12_walkItem 260 = .ok (.iaload, 1) := dk_46 (dk_at dksX12_walkItem_11 2 rfl rfl)
theorem dX12_walkItem_261 : decode cX12_walkItem 261 = .ok (.iconst (-1), 1) := dk_2 (dk_at dksX12_walkItem_11 3 rfl rfl)
theorem dX12_walkItem_262 : decode cX12_walkItem 262 = .ok (.if_icmp .ne 8, 3) := dk_160 0 8 (dk_at dksX12_walkItem_11 4 rfl rfl)
theorem dX12_walkItem_265 : decode cX12_walkItem 265 = .ok (.iload 9, 2) := dk_21 9 (dk_at dksX12_walkItem_11 7 rfl rfl)
theorem dX12_walkItem_267 : decode cX12_walkItem 267 = .ok (.goto 18, 3) := dk_167 0 18 (dk_at dksX12_walkItem_11 9 rfl rfl)
theorem dX12_walkItem_270 : decode cX12_walkItem 270 = .ok (.iload 11, 2) := dk_21 11 (dk_at dksX12_walkItem_11 12 rfl rfl)
theorem dX12_walkItem_272 : decode cX12_walkItem 272 = .ok (.ifCond .ne 12, 3) := dk_154 0 12 (dk_at dksX12_walkItem_11 14 rfl rfl)
theorem dX12_walkItem_275 : decode cX12_walkItem 275 = .ok (.sipush 200, 3) := dk_17 0 200 (dk_at dksX12_walkItem_11 17 rfl rfl)
theorem dX12_walkItem_278 : decode cX12_walkItem 278 = .ok (.iload 9, 2) := dk_21 9 (dk_at dksX12_walkItem_11 20 rfl rfl)
theorem dX12_walkItem_280 : decode cX12_walkItem 280 = .ok (.iadd, 1) := dk_96 (dk_at dksX12_walkItem_11 22 rfl rfl)
theorem dX12_walkItem_281 : decode cX12_walkItem 281 = .ok (.goto 4, 3) := dk_167 0 4 (dk_at dksX12_walkItem_12 0 rfl rfl)
theorem dX12_walkItem_284 : decode cX12_walkItem 284 = .ok (.iconst (-1), 1) := dk_2 (dk_at dksX12_walkItem_12 3 rfl rfl)
theorem dX12_walkItem_285 : decode cX12_walkItem 285 = .ok (.istore 6, 2) := dk_54 6 (dk_at dksX12_walkItem_12 4 rfl rfl)
theorem dX12_walkItem_287 : decode cX12_walkItem 287 = .ok (.iload 6, 2) := dk_21 6 (dk_at dksX12_walkItem_12 6 rfl rfl)
theorem dX12_walkItem_289 : decode cX12_walkItem 289 = .ok (.iconst (-1), 1) := dk_2 (dk_at dksX12_walkItem_12 8 rfl rfl)
theorem dX12_walkItem_290 : decode cX12_walkItem 290 = .ok (.if_icmp .ne 41, 3) := dk_160 0 41 (dk_at dksX12_walkItem_12 9 rfl rfl)
theorem dX12_walkItem_293 : decode cX12_walkItem 293 = .ok (.lload_n 2, 1) := dk_32 (dk_at dksX12_walkItem_12 12 rfl rfl)
theorem dX12_walkItem_294 : decode cX12_walkItem 294 = .ok (.aload_n 0, 1) := dk_42 (dk_at dksX12_walkItem_12 13 rfl rfl)
theorem dX12_walkItem_295 : decode cX12_walkItem 295 = .ok (.iload 7, 2) := dk_21 7 (dk_at dksX12_walkItem_12 14 rfl rfl)
theorem dX12_walkItem_297 : decode cX12_walkItem 297 = .ok (.iload 8, 2) := dk_21 8 (dk_at dksX12_walkItem_12 16 rfl rfl)
theorem dX12_walkItem_299 : decode cX12_walkItem 299 = .ok (.iload 9, 2) := dk_21 9 (dk_at dksX12_walkItem_12 18 rfl rfl)
theorem dX12_walkItem_301 : decode cX12_walkItem 301 = .ok (.iload 10, 2) := dk_21 10 (dk_at dksX12_walkItem_12 20 rfl rfl)
theorem dX12_walkItem_303 : decode cX12_walkItem 303 = .ok (.iload 11, 2) := dk_21 11 (dk_at dksX12_walkItem_12 22 rfl rfl)
theorem dX12_walkItem_305 : decode cX12_walkItem 305 = .ok (.iconst 0, 1) := dk_3 (dk_at dksX12_walkItem_13 0 rfl rfl)
theorem dX12_walkItem_306 : decode cX12_walkItem 306 = .ok (.invokevirtual 112, 3) := dk_182 0 112 (dk_at dksX12_walkItem_13 1 rfl rfl)
theorem dX12_walkItem_309 : decode cX12_walkItem 309 = .ok (.ladd, 1) := dk_97 (dk_at dksX12_walkItem_13 4 rfl rfl)
theorem dX12_walkItem_310 : decode cX12_walkItem 310 = .ok (.lstore_n 2, 1) := dk_65 (dk_at dksX12_walkItem_13 5 rfl rfl)
theorem dX12_walkItem_311 : decode cX12_walkItem 311 = .ok (.lload 4, 2) := dk_22 4 (dk_at dksX12_walkItem_13 6 rfl rfl)
theorem dX12_walkItem_313 : decode cX12_walkItem 313 = .ok (.aload_n 0, 1) := dk_42 (dk_at dksX12_walkItem_13 8 rfl rfl)
theorem dX12_walkItem_314 : decode cX12_walkItem 314 = .ok (.iload 7, 2) := dk_21 7 (dk_at dksX12_walkItem_13 9 rfl rfl)
theorem dX12_walkItem_316 : decode cX12_walkItem 316 = .ok (.iload 8, 2) := dk_21 8 (dk_at dksX12_walkItem_13 11 rfl rfl)
theorem dX12_walkItem_318 : decode cX12_walkItem 318 = .ok (.iload 9, 2) := dk_21 9 (dk_at dksX12_walkItem_13 13 rfl rfl)
theorem dX12_walkItem_320 : decode cX12_walkItem 320 = .ok (.iload 10, 2) := dk_21 10 (dk_at dksX12_walkItem_13 15 rfl rfl)
theorem dX12_walkItem_322 : decode cX12_walkItem 322 = .ok (.iload 11, 2) := dk_21 11 (dk_at dksX12_walkItem_13 17 rfl rfl)
theorem dX12_walkItem_324 : decode cX12_walkItem 324 = .ok (.iconst 1, 1) := dk_4 (dk_at dksX12_walkItem_13 19 rfl rfl)
theorem dX12_walkItem_325 : decode cX12_walkItem 325 = .ok (.invokevirtual 112, 3) := dk_182 0 112 (dk_at dksX12_walkItem_13 20 rfl rfl)
theorem dX12_walkItem_328 : decode cX12_walkItem 328 = .ok (.ladd, 1) := dk_97 (dk_at dksX12_walkItem_13 23 rfl rfl)
theorem dX12_walkItem_329 : decode cX12_walkItem 329 = .ok (.lstore 4, 2) := dk_55 4 (dk_at dksX12_walkItem_14 0 rfl rfl)
theorem dX12_walkItem_331 : decode cX12_walkItem 331 = .ok (.goto (-242), 3) := dk_167 255 14 (dk_at dksX12_walkItem_14 2 rfl rfl)
theorem dX12_walkItem_334 : decode cX12_walkItem 334 = .ok (.aload_n 0, 1) := dk_42 (dk_at dksX12_walkItem_14 5 rfl rfl)
theorem dX12_walkItem_335 : decode cX12_walkItem 335 = .ok (.getfield 16, 3) := dk_180 0 16 (dk_at dksX12_walkItem_14 6 rfl rfl)
theorem dX12_walkItem_338 : decode cX12_walkItem 338 = .ok (.aload_n 0, 1) := dk_42 (dk_at dksX12_walkItem_14 9 rfl rfl)
theorem dX12_walkItem_339 : decode cX12_walkItem 339 = .ok (.dup, 1) := dk_89 (dk_at dksX12_walkItem_14 10 rfl rfl)
theorem dX12_walkItem_340 : decode cX12_walkItem 340 = .ok (.getfield 205, 3) := dk_180 0 205 (dk_at dksX12_walkItem_14 11 rfl rfl)
theorem dX12_walkItem_343 : decode cX12_walkItem 343 = .ok (.dup_x1, 1) := dk_90 (dk_at dksX12_walkItem_14 14 rfl rfl)
theorem dX12_walkItem_344 : decode cX12_walkItem 344 = .ok (.iconst 1, 1) := dk_4 (dk_at dksX12_walkItem_14 15 rfl rfl)
theorem dX12_walkItem_345 : decode cX12_walkItem 345 = .ok (.iadd, 1) := dk_96 (dk_at dksX12_walkItem_14 16 rfl rfl)
theorem dX12_walkItem_346 : decode cX12_walkItem 346 = .ok (.putfield 205, 3) := dk_181 0 205 (dk_at dksX12_walkItem_14 17 rfl rfl)
theorem dX12_walkItem_349 : decode cX12_walkItem 349 = .ok (.getstatic 243, 3) := dk_178 0 243 (dk_at dksX12_walkItem_14 20 rfl rfl)
theorem dX12_walkItem_352 : decode cX12_walkItem 352 = .ok (.invokevirtual 224, 3) := dk_182 0 224 (dk_at dksX12_walkItem_15 0 rfl rfl)
theorem dX12_walkItem_355 : decode cX12_walkItem 355 = .ok (.istore 7, 2) := dk_54 7 (dk_at dksX12_walkItem_15 3 rfl rfl)
theorem dX12_walkItem_357 : decode cX12_walkItem 357 = .ok (.aload_n 0, 1) := dk_42 (dk_at dksX12_walkItem_15 5 rfl rfl)
theorem dX12_walkItem_358 : decode cX12_walkItem 358 = .ok (.iload 6, 2) := dk_21 6 (dk_at dksX12_walkItem_15 6 rfl rfl)
theorem dX12_walkItem_360 : decode cX12_walkItem 360 = .ok (.putfield 116, 3) := dk_181 0 116 (dk_at dksX12_walkItem_15 8 rfl rfl)
theorem dX12_walkItem_363 : decode cX12_walkItem 363 = .ok (.aload_n 0, 1) := dk_42 (dk_at dksX12_walkItem_15 11 rfl rfl)
theorem dX12_walkItem_364 : decode cX12_walkItem 364 = .ok (.iload 7, 2) := dk_21 7 (dk_at dksX12_walkItem_15 12 rfl rfl)
theorem dX12_walkItem_366 : decode cX12_walkItem 366 = .ok (.aload_n 0, 1) := dk_42 (dk_at dksX12_walkItem_15 14 rfl rfl)
theorem dX12_walkItem_367 : decode cX12_walkItem 367 = .ok (.invokevirtual 218, 3) := dk_182 0 218 (dk_at dksX12_walkItem_15 15 rfl rfl)
theorem dX12_walkItem_370 : decode cX12_walkItem 370 = .ok (.i2l, 1) := dk_133 (dk_at dksX12_walkItem_15 18 rfl rfl)
theorem dX12_walkItem_371 : decode cX12_walkItem 371 = .ok (.lload_n 2, 1) := dk_32 (dk_at dksX12_walkItem_15 19 rfl rfl)
theorem dX12_walkItem_372 : decode cX12_walkItem 372 = .ok (.lload 4, 2) := dk_22 4 (dk_at dksX12_walkItem_15 20 rfl rfl)
theorem dX12_walkItem_374 : decode cX12_walkItem 374 = .ok (.invokevirtual 153, 3) := dk_182 0 153 (dk_at dksX12_walkItem_16 0 rfl rfl)
theorem dX12_walkItem_377 : decode cX12_walkItem 377 = .ok (.ireturn, 1) := dk_172 (dk_at dksX12_walkItem_16 3 rfl rfl)
abbrev cX12_cls : ByteArray := prog_19_method_29_code
def yX12_cls : MethodName := ⟨RX12, "cls", "(I)I"⟩
def dkwX12_cls_0 : List UInt8 := [42, 180, 0, 89, 27, 184, 1, 8, 172]
abbrev dktX12_cls_0 : List UInt8 := dkwX12_cls_0 ++ []
theorem dksX12_cls_0 : cX12_cls.data.toList.drop 0 = dktX12_cls_0 := by decide +kernel
theorem dX12_cls_0 : decode cX12_cls 0 = .ok (.aload_n 0, 1) := dk_42 (dk_at dksX12_cls_0 0 rfl rfl)
theorem dX12_cls_1 : decode cX12_cls 1 = .ok (.getfield 89, 3) := dk_180 0 89 (dk_at dksX12_cls_0 1 rfl rfl)
theorem dX12_cls_4 : decode cX12_cls 4 = .ok (.iload_n 1, 1) := dk_27 (dk_at dksX12_cls_0 4 rfl rfl)
theorem dX12_cls_5 : decode cX12_cls 5 = .ok (.invokestatic 264, 3) := dk_184 1 8 (dk_at dksX12_cls_0 5 rfl rfl)
theorem dX12_cls_8 : decode cX12_cls 8 = .ok (.ireturn, 1) := dk_172 (dk_at dksX12_cls_0 8 rfl rfl)
abbrev cX12_bit : ByteArray := prog_19_method_28_code
def yX12_bit : MethodName := ⟨RX12, "bit", "(II)I"⟩
def dkwX12_bit_1 : List UInt8 := [167, 255, 238, 27, 155, 0, 7, 28, 154, 0, 7, 2, 167, 0, 7, 28, 184, 1, 3, 172]
abbrev dktX12_bit_1 : List UInt8 := dkwX12_bit_1 ++ []
def dkwX12_bit_0 : List UInt8 := [26, 61, 3, 62, 29, 27, 162, 0, 19, 28, 153, 0, 15, 28, 28, 4, 100, 126, 61, 132, 3, 1]
abbrev dktX12_bit_0 : List UInt8 := dkwX12_bit_0 ++ dktX12_bit_1
theorem dksX12_bit_0 : cX12_bit.data.toList.drop 0 = dktX12_bit_0 := by decide +kernel
theorem dksX12_bit_1 : cX12_bit.data.toList.drop 22 = dktX12_bit_1 := dk_seg dksX12_bit_0 22 rfl rfl
theorem dX12_bit_0 : decode cX12_bit 0 = .ok (.iload_n 0, 1) := dk_26 (dk_at dksX12_bit_0 0 rfl rfl)
theorem dX12_bit_1 : decode cX12_bit 1 = .ok (.istore_n 2, 1) := dk_61 (dk_at dksX12_bit_0 1 rfl rfl)
theorem dX12_bit_2 : decode cX12_bit 2 = .ok (.iconst 0, 1) := dk_3 (dk_at dksX12_bit_0 2 rfl rfl)
theorem dX12_bit_3 : decode cX12_bit 3 = .ok (.istore_n 3, 1) := dk_62 (dk_at dksX12_bit_0 3 rfl rfl)
theorem dX12_bit_4 : decode cX12_bit 4 = .ok (.iload_n 3, 1) := dk_29 (dk_at dksX12_bit_0 4 rfl rfl)
theorem dX12_bit_5 : decode cX12_bit 5 = .ok (.iload_n 1, 1) := dk_27 (dk_at dksX12_bit_0 5 rfl rfl)
theorem dX12_bit_6 : decode cX12_bit 6 = .ok (.if_icmp .ge 19, 3) := dk_162 0 19 (dk_at dksX12_bit_0 6 rfl rfl)
theorem dX12_bit_9 : decode cX12_bit 9 = .ok (.iload_n 2, 1) := dk_28 (dk_at dksX12_bit_0 9 rfl rfl)
theorem dX12_bit_10 : decode cX12_bit 10 = .ok (.ifCond .eq 15, 3) := dk_153 0 15 (dk_at dksX12_bit_0 10 rfl rfl)
theorem dX12_bit_13 : decode cX12_bit 13 = .ok (.iload_n 2, 1) := dk_28 (dk_at dksX12_bit_0 13 rfl rfl)
theorem dX12_bit_14 : decode cX12_bit 14 = .ok (.iload_n 2, 1) := dk_28 (dk_at dksX12_bit_0 14 rfl rfl)
theorem dX12_bit_15 : decode cX12_bit 15 = .ok (.iconst 1, 1) := dk_4 (dk_at dksX12_bit_0 15 rfl rfl)
theorem dX12_bit_16 : decode cX12_bit 16 = .ok (.isub, 1) := dk_100 (dk_at dksX12_bit_0 16 rfl rfl)
theorem dX12_bit_17 : decode cX12_bit 17 = .ok (.iand, 1) := dk_126 (dk_at dksX12_bit_0 17 rfl rfl)
theorem dX12_bit_18 : decode cX12_bit 18 = .ok (.istore_n 2, 1) := dk_61 (dk_at dksX12_bit_0 18 rfl rfl)
theorem dX12_bit_19 : decode cX12_bit 19 = .ok (.iinc 3 1, 3) := dk_132 3 1 (dk_at dksX12_bit_0 19 rfl rfl)
theorem dX12_bit_22 : decode cX12_bit 22 = .ok (.goto (-18), 3) := dk_167 255 238 (dk_at dksX12_bit_1 0 rfl rfl)
theorem dX12_bit_25 : decode cX12_bit 25 = .ok (.iload_n 1, 1) := dk_27 (dk_at dksX12_bit_1 3 rfl rfl)
theorem dX12_bit_26 : decode cX12_bit 26 = .ok (.ifCond .lt 7, 3) := dk_155 0 7 (dk_at dksX12_bit_1 4 rfl rfl)
theorem dX12_bit_29 : decode cX12_bit 29 = .ok (.iload_n 2, 1) := dk_28 (dk_at dksX12_bit_1 7 rfl rfl)
theorem dX12_bit_30 : decode cX12_bit 30 = .ok (.ifCond .ne 7, 3) := dk_154 0 7 (dk_at dksX12_bit_1 8 rfl rfl)
theorem dX12_bit_33 : decode cX12_bit 33 = .ok (.iconst (-1), 1) := dk_2 (dk_at dksX12_bit_1 11 rfl rfl)
theorem dX12_bit_34 : decode cX12_bit 34 = .ok (.goto 7, 3) := dk_167 0 7 (dk_at dksX12_bit_1 12 rfl rfl)
theorem dX12_bit_37 : decode cX12_bit 37 = .ok (.iload_n 2, 1) := dk_28 (dk_at dksX12_bit_1 15 rfl rfl)
theorem dX12_bit_38 : decode cX12_bit 38 = .ok (.invokestatic 259, 3) := dk_184 1 3 (dk_at dksX12_bit_1 16 rfl rfl)
theorem dX12_bit_41 : decode cX12_bit 41 = .ok (.ireturn, 1) := dk_172 (dk_at dksX12_bit_1 19 rfl rfl)
abbrev cX12_mark : ByteArray := prog_19_method_30_code
def yX12_mark : MethodName := ⟨RX12, "mark", "(I)I"⟩
def dkwX12_mark_0 : List UInt8 := [27, 155, 0, 20, 27, 42, 180, 0, 92, 162, 0, 12, 42, 180, 0, 62, 27, 46, 167, 0, 4, 2, 172]
abbrev dktX12_mark_0 : List UInt8 := dkwX12_mark_0 ++ []
theorem dksX12_mark_0 : cX12_mark.data.toList.drop 0 = dktX12_mark_0 := by decide +kernel
theorem dX12_mark_0 : decode cX12_mark 0 = .ok (.iload_n 1, 1) := dk_27 (dk_at dksX12_mark_0 0 rfl rfl)
theorem dX12_mark_1 : decode cX12_mark 1 = .ok (.ifCond .lt 20, 3) := dk_155 0 20 (dk_at dksX12_mark_0 1 rfl rfl)
theorem dX12_mark_4 : decode cX12_mark 4 = .ok (.iload_n 1, 1) := dk_27 (dk_at dksX12_mark_0 4 rfl rfl)
theorem dX12_mark_5 : decode cX12_mark 5 = .ok (.aload_n 0, 1) := dk_42 (dk_at dksX12_mark_0 5 rfl rfl)
theorem dX12_mark_6 : decode cX12_mark 6 = .ok (.getfield 92, 3) := dk_180 0 92 (dk_at dksX12_mark_0 6 rfl rfl)
theorem dX12_mark_9 : decode cX12_mark 9 = .ok (.if_icmp .ge 12, 3) := dk_162 0 12 (dk_at dksX12_mark_0 9 rfl rfl)
theorem dX12_mark_12 : decode cX12_mark 12 = .ok (.aload_n 0, 1) := dk_42 (dk_at dksX12_mark_0 12 rfl rfl)
theorem dX12_mark_13 : decode cX12_mark 13 = .ok (.getfield 62, 3) := dk_180 0 62 (dk_at dksX12_mark_0 13 rfl rfl)
theorem dX12_mark_16 : decode cX12_mark 16 = .ok (.iload_n 1, 1) := dk_27 (dk_at dksX12_mark_0 16 rfl rfl)
theorem dX12_mark_17 : decode cX12_mark 17 = .ok (.iaload, 1) := dk_46 (dk_at dksX12_mark_0 17 rfl rfl)
theorem dX12_mark_18 : decode cX12_mark 18 = .ok (.goto 4, 3) := dk_167 0 4 (dk_at dksX12_mark_0 18 rfl rfl)
theorem dX12_mark_21 : decode cX12_mark 21 = .ok (.iconst (-1), 1) := dk_2 (dk_at dksX12_mark_0 21 rfl rfl)
theorem dX12_mark_22 : decode cX12_mark 22 = .ok (.ireturn, 1) := dk_172 (dk_at dksX12_mark_0 22 rfl rfl)
abbrev cX12_moving : ByteArray := prog_19_method_31_code
def yX12_moving : MethodName := ⟨RX12, "moving", "()I"⟩
def dkwX12_moving_0 : List UInt8 := [42, 180, 0, 89, 3, 184, 1, 8, 172]
abbrev dktX12_moving_0 : List UInt8 := dkwX12_moving_0 ++ []
theorem dksX12_moving_0 : cX12_moving.data.toList.drop 0 = dktX12_moving_0 := by decide +kernel
theorem dX12_moving_0 : decode cX12_moving 0 = .ok (.aload_n 0, 1) := dk_42 (dk_at dksX12_moving_0 0 rfl rfl)
theorem dX12_moving_1 : decode cX12_moving 1 = .ok (.getfield 89, 3) := dk_180 0 89 (dk_at dksX12_moving_0 1 rfl rfl)
theorem dX12_moving_4 : decode cX12_moving 4 = .ok (.iconst 0, 1) := dk_3 (dk_at dksX12_moving_0 4 rfl rfl)
theorem dX12_moving_5 : decode cX12_moving 5 = .ok (.invokestatic 264, 3) := dk_184 1 8 (dk_at dksX12_moving_0 5 rfl rfl)
theorem dX12_moving_8 : decode cX12_moving 8 = .ok (.ireturn, 1) := dk_172 (dk_at dksX12_moving_0 8 rfl rfl)
abbrev cX12_open : ByteArray := prog_19_method_32_code
def yX12_open : MethodName := ⟨RX12, "open", "(II)I"⟩
def dkwX12_open_3 : List UInt8 := [167, 0, 4, 2, 172, 132, 3, 1, 132, 4, 1, 167, 255, 183, 2, 172]
abbrev dktX12_open_3 : List UInt8 := dkwX12_open_3 ++ []
def dkwX12_open_2 : List UInt8 := [180, 0, 26, 180, 0, 185, 21, 4, 46, 167, 0, 19, 28, 5, 160, 0, 13, 42, 180, 0, 55, 21, 4, 46]
abbrev dktX12_open_2 : List UInt8 := dkwX12_open_2 ++ dktX12_open_3
def dkwX12_open_1 : List UInt8 := [153, 0, 55, 29, 27, 160, 0, 47, 28, 154, 0, 8, 21, 4, 167, 0, 37, 28, 4, 160, 0, 16, 42]
abbrev dktX12_open_1 : List UInt8 := dkwX12_open_1 ++ dktX12_open_2
def dkwX12_open_0 : List UInt8 := [3, 62, 42, 182, 0, 174, 54, 4, 21, 4, 42, 182, 0, 178, 162, 0, 70, 42, 21, 4, 182, 0, 198]
abbrev dktX12_open_0 : List UInt8 := dkwX12_open_0 ++ dktX12_open_1
theorem dksX12_open_0 : cX12_open.data.toList.drop 0 = dktX12_open_0 := by decide +kernel
theorem dksX12_open_1 : cX12_open.data.toList.drop 23 = dktX12_open_1 := dk_seg dksX12_open_0 23 rfl rfl
theorem dksX12_open_2 : cX12_open.data.toList.drop 46 = dktX12_open_2 := dk_seg dksX12_open_1 23 rfl rfl
theorem dksX12_open_3 : cX12_open.data.toList.drop 70 = dktX12_open_3 := dk_seg dksX12_open_2 24 rfl rfl
theorem dX12_open_0 : decode cX12_open 0 = .ok (.iconst 0, 1) := dk_3 (dk_at dksX12_open_0 0 rfl rfl)
theorem dX12_open_1 : decode cX12_open 1 = .ok (.istore_n 3, 1) := dk_62 (dk_at dksX12_open_0 1 rfl rfl)
theorem dX12_open_2 : decode cX12_open 2 = .ok (.aload_n 0, 1) := dk_42 (dk_at dksX12_open_0 2 rfl rfl)
theorem dX12_open_3 : decode cX12_open 3 = .ok (.invokevirtual 174, 3) := dk_182 0 174 (dk_at dksX12_open_0 3 rfl rfl)
theorem dX12_open_6 : decode cX12_open 6 = .ok (.istore 4, 2) := dk_54 4 (dk_at dksX12_open_0 6 rfl rfl)
theorem dX12_open_8 : decode cX12_open 8 = .ok (.iload 4, 2) := dk_21 4 (dk_at dksX12_open_0 8 rfl rfl)
theorem dX12_open_10 : decode cX12_open 10 = .ok (.aload_n 0, 1) := dk_42 (dk_at dksX12_open_0 10 rfl rfl)
theorem dX12_open_11 : decode cX12_open 11 = .ok (.invokevirtual 178, 3) := dk_182 0 178 (dk_at dksX12_open_0 11 rfl rfl)
theorem dX12_open_14 : decode cX12_open 14 = .ok (.if_icmp .ge 70, 3) := dk_162 0 70 (dk_at dksX12_open_0 14 rfl rfl)
theorem dX12_open_17 : decode cX12_open 17 = .ok (.aload_n 0, 1) := dk_42 (dk_at dksX12_open_0 17 rfl rfl)
theorem dX12_open_18 : decode cX12_open 18 = .ok (.iload 4, 2) := dk_21 4 (dk_at dksX12_open_0 18 rfl rfl)
theorem dX12_open_20 : decode cX12_open 20 = .ok (.invokevirtual 198, 3) := dk_182 0 198 (dk_at dksX12_open_0 20 rfl rfl)
theorem dX12_open_23 : decode cX12_open 23 = .ok (.ifCond .eq 55, 3) := dk_153 0 55 (dk_at dksX12_open_1 0 rfl rfl)
theorem dX12_open_26 : decode cX12_open 26 = .ok (.iload_n 3, 1) := dk_29 (dk_at dksX12_open_1 3 rfl rfl)
theorem dX12_open_27 : decode cX12_open 27 = .ok (.iload_n 1, 1) := dk_27 (dk_at dksX12_open_1 4 rfl rfl)
theorem dX12_open_28 : decode cX12_open 28 = .ok (.if_icmp .ne 47, 3) := dk_160 0 47 (dk_at dksX12_open_1 5 rfl rfl)
theorem dX12_open_31 : decode cX12_open 31 = .ok (.iload_n 2, 1) := dk_28 (dk_at dksX12_open_1 8 rfl rfl)
theorem dX12_open_32 : decode cX12_open 32 = .ok (.ifCond .ne 8, 3) := dk_154 0 8 (dk_at dksX12_open_1 9 rfl rfl)
theorem dX12_open_35 : decode cX12_open 35 = .ok (.iload 4, 2) := dk_21 4 (dk_at dksX12_open_1 12 rfl rfl)
theorem dX12_open_37 : decode cX12_open 37 = .ok (.goto 37, 3) := dk_167 0 37 (dk_at dksX12_open_1 14 rfl rfl)
theorem dX12_open_40 : decode cX12_open 40 = .ok (.iload_n 2, 1) := dk_28 (dk_at dksX12_open_1 17 rfl rfl)
theorem dX12_open_41 : decode cX12_open 41 = .ok (.iconst 1, 1) := dk_4 (dk_at dksX12_open_1 18 rfl rfl)
theorem dX12_open_42 : decode cX12_open 42 = .ok (.if_icmp .ne 16, 3) := dk_160 0 16 (dk_at dksX12_open_1 19 rfl rfl)
theorem dX12_open_45 : decode cX12_open 45 = .ok (.aload_n 0, 1) := dk_42 (dk_at dksX12_open_1 22 rfl rfl)
theorem dX12_open_46 : decode cX12_open 46 = .ok (.getfield 26, 3) := dk_180 0 26 (dk_at dksX12_open_2 0 rfl rfl)
theorem dX12_open_49 : decode cX12_open 49 = .ok (.getfield 185, 3) := dk_180 0 185 (dk_at dksX12_open_2 3 rfl rfl)
theorem dX12_open_52 : decode cX12_open 52 = .ok (.iload 4, 2) := dk_21 4 (dk_at dksX12_open_2 6 rfl rfl)
theorem dX12_open_54 : decode cX12_open 54 = .ok (.iaload, 1) := dk_46 (dk_at dksX12_open_2 8 rfl rfl)
theorem dX12_open_55 : decode cX12_open 55 = .ok (.goto 19, 3) := dk_167 0 19 (dk_at dksX12_open_2 9 rfl rfl)
theorem dX12_open_58 : decode cX12_open 58 = .ok (.iload_n 2, 1) := dk_28 (dk_at dksX12_open_2 12 rfl rfl)
theorem dX12_open_59 : decode cX12_open 59 = .ok (.iconst 2, 1) := dk_5 (dk_at dksX12_open_2 13 rfl rfl)
theorem dX12_open_60 : decode cX12_open 60 = .ok (.if_icmp .ne 13, 3) := dk_160 0 13 (dk_at dksX12_open_2 14 rfl rfl)
theorem dX12_open_63 : decode cX12_open 63 = .ok (.aload_n 0, 1) := dk_42 (dk_at dksX12_open_2 17 rfl rfl)
theorem dX12_open_64 : decode cX12_open 64 = .ok (.getfield 55, 3) := dk_180 0 55 (dk_at dksX12_open_2 18 rfl rfl)
theorem dX12_open_67 : decode cX12_open 67 = .ok (.iload 4, 2) := dk_21 4 (dk_at dksX12_open_2 21 rfl rfl)
theorem dX12_open_69 : decode cX12_open 69 = .ok (.iaload, 1) := dk_46 (dk_at dksX12_open_2 23 rfl rfl)
theorem dX12_open_70 : decode cX12_open 70 = .ok (.goto 4, 3) := dk_167 0 4 (dk_at dksX12_open_3 0 rfl rfl)
theorem dX12_open_73 : decode cX12_open 73 = .ok (.iconst (-1), 1) := dk_2 (dk_at dksX12_open_3 3 rfl rfl)
theorem dX12_open_74 : decode cX12_open 74 = .ok (.ireturn, 1) := dk_172 (dk_at dksX12_open_3 4 rfl rfl)
theorem dX12_open_75 : decode cX12_open 75 = .ok (.iinc 3 1, 3) := dk_132 3 1 (dk_at dksX12_open_3 5 rfl rfl)
theorem dX12_open_78 : decode cX12_open 78 = .ok (.iinc 4 1, 3) := dk_132 4 1 (dk_at dksX12_open_3 8 rfl rfl)
theorem dX12_open_81 : decode cX12_open 81 = .ok (.goto (-73), 3) := dk_167 255 183 (dk_at dksX12_open_3 11 rfl rfl)
theorem dX12_open_84 : decode cX12_open 84 = .ok (.iconst (-1), 1) := dk_2 (dk_at dksX12_open_3 14 rfl rfl)
theorem dX12_open_85 : decode cX12_open 85 = .ok (.ireturn, 1) := dk_172 (dk_at dksX12_open_3 15 rfl rfl)
abbrev cX12_missing : ByteArray := prog_19_method_34_code
def yX12_missing : MethodName := ⟨RX12, "missing", "(I)I"⟩
def dkwX12_missing_2 : List UInt8 := [132, 3, 1, 167, 255, 214, 2, 172]
abbrev dktX12_missing_2 : List UInt8 := dkwX12_missing_2 ++ []
def dkwX12_missing_1 : List UInt8 := [29, 182, 1, 12, 154, 0, 18, 28, 27, 160, 0, 10, 42, 180, 0, 55, 29, 46, 172, 132, 2, 1]
abbrev dktX12_missing_1 : List UInt8 := dkwX12_missing_1 ++ dktX12_missing_2
def dkwX12_missing_0 : List UInt8 := [3, 61, 42, 182, 0, 174, 62, 29, 42, 182, 0, 178, 162, 0, 40, 42, 29, 182, 0, 198, 153, 0, 26, 42]
abbrev dktX12_missing_0 : List UInt8 := dkwX12_missing_0 ++ dktX12_missing_1
theorem dksX12_missing_0 : cX12_missing.data.toList.drop 0 = dktX12_missing_0 := by decide +kernel
theorem dksX12_missing_1 : cX12_missing.data.toList.drop 24 = dktX12_missing_1 := dk_seg dksX12_missing_0 24 rfl rfl
theorem dksX12_missing_2 : cX12_missing.data.toList.drop 46 = dktX12_missing_2 := dk_seg dksX12_missing_1 22 rfl rfl
theorem dX12_missing_0 : decode cX12_missing 0 = .ok (.iconst 0, 1) := dk_3 (dk_at dksX12_missing_0 0 rfl rfl)
theorem dX12_missing_1 : decode cX12_missing 1 = .ok (.istore_n 2, 1) := dk_61 (dk_at dksX12_missing_0 1 rfl rfl)
theorem dX12_missing_2 : decode cX12_missing 2 = .ok (.aload_n 0, 1) := dk_42 (dk_at dksX12_missing_0 2 rfl rfl)
theorem dX12_missing_3 : decode cX12_missing 3 = .ok (.invokevirtual 174, 3) := dk_182 0 174 (dk_at dksX12_missing_0 3 rfl rfl)
theorem dX12_missing_6 : decode cX12_missing 6 = .ok (.istore_n 3, 1) := dk_62 (dk_at dksX12_missing_0 6 rfl rfl)
theorem dX12_missing_7 : decode cX12_missing 7 = .ok (.iload_n 3, 1) := dk_29 (dk_at dksX12_missing_0 7 rfl rfl)
theorem dX12_missing_8 : decode cX12_missing 8 = .ok (.aload_n 0, 1) := dk_42 (dk_at dksX12_missing_0 8 rfl rfl)
theorem dX12_missing_9 : decode cX12_missing 9 = .ok (.invokevirtual 178, 3) := dk_182 0 178 (dk_at dksX12_missing_0 9 rfl rfl)
theorem dX12_missing_12 : decode cX12_missing 12 = .ok (.if_icmp .ge 40, 3) := dk_162 0 40 (dk_at dksX12_missing_0 12 rfl rfl)
theorem dX12_missing_15 : decode cX12_missing 15 = .ok (.aload_n 0, 1) := dk_42 (dk_at dksX12_missing_0 15 rfl rfl)
theorem dX12_missing_16 : decode cX12_missing 16 = .ok (.iload_n 3, 1) := dk_29 (dk_at dksX12_missing_0 16 rfl rfl)
theorem dX12_missing_17 : decode cX12_missing 17 = .ok (.invokevirtual 198, 3) := dk_182 0 198 (dk_at dksX12_missing_0 17 rfl rfl)
theorem dX12_missing_20 : decode cX12_missing 20 = .ok (.ifCond .eq 26, 3) := dk_153 0 26 (dk_at dksX12_missing_0 20 rfl rfl)
theorem dX12_missing_23 : decode cX12_missing 23 = .ok (.aload_n 0, 1) := dk_42 (dk_at dksX12_missing_0 23 rfl rfl)
theorem dX12_missing_24 : decode cX12_missing 24 = .ok (.iload_n 3, 1) := dk_29 (dk_at dksX12_missing_1 0 rfl rfl)
theorem dX12_missing_25 : decode cX12_missing 25 = .ok (.invokevirtual 268, 3) := dk_182 1 12 (dk_at dksX12_missing_1 1 rfl rfl)
theorem dX12_missing_28 : decode cX12_missing 28 = .ok (.ifCond .ne 18, 3) := dk_154 0 18 (dk_at dksX12_missing_1 4 rfl rfl)
theorem dX12_missing_31 : decode cX12_missing 31 = .ok (.iload_n 2, 1) := dk_28 (dk_at dksX12_missing_1 7 rfl rfl)
theorem dX12_missing_32 : decode cX12_missing 32 = .ok (.iload_n 1, 1) := dk_27 (dk_at dksX12_missing_1 8 rfl rfl)
theorem dX12_missing_33 : decode cX12_missing 33 = .ok (.if_icmp .ne 10, 3) := dk_160 0 10 (dk_at dksX12_missing_1 9 rfl rfl)
theorem dX12_missing_36 : decode cX12_missing 36 = .ok (.aload_n 0, 1) := dk_42 (dk_at dksX12_missing_1 12 rfl rfl)
theorem dX12_missing_37 : decode cX12_missing 37 = .ok (.getfield 55, 3) := dk_180 0 55 (dk_at dksX12_missing_1 13 rfl rfl)
theorem dX12_missing_40 : decode cX12_missing 40 = .ok (.iload_n 3, 1) := dk_29 (dk_at dksX12_missing_1 16 rfl rfl)
theorem dX12_missing_41 : decode cX12_missing 41 = .ok (.iaload, 1) := dk_46 (dk_at dksX12_missing_1 17 rfl rfl)
theorem dX12_missing_42 : decode cX12_missing 42 = .ok (.ireturn, 1) := dk_172 (dk_at dksX12_missing_1 18 rfl rfl)
theorem dX12_missing_43 : decode cX12_missing 43 = .ok (.iinc 2 1, 3) := dk_132 2 1 (dk_at dksX12_missing_1 19 rfl rfl)
theorem dX12_missing_46 : decode cX12_missing 46 = .ok (.iinc 3 1, 3) := dk_132 3 1 (dk_at dksX12_missing_2 0 rfl rfl)
theorem dX12_missing_49 : decode cX12_missing 49 = .ok (.goto (-42), 3) := dk_167 255 214 (dk_at dksX12_missing_2 3 rfl rfl)
theorem dX12_missing_52 : decode cX12_missing 52 = .ok (.iconst (-1), 1) := dk_2 (dk_at dksX12_missing_2 6 rfl rfl)
theorem dX12_missing_53 : decode cX12_missing 53 = .ok (.ireturn, 1) := dk_172 (dk_at dksX12_missing_2 7 rfl rfl)
abbrev cX12_isLacking : ByteArray := prog_19_method_33_code
def yX12_isLacking : MethodName := ⟨RX12, "isLacking", "(I)Z"⟩
def dkwX12_isLacking_2 : List UInt8 := [167, 255, 215, 28, 172]
abbrev dktX12_isLacking_2 : List UInt8 := dkwX12_isLacking_2 ++ []
def dkwX12_isLacking_1 : List UInt8 := [42, 180, 0, 55, 29, 46, 42, 180, 0, 55, 27, 46, 160, 0, 7, 4, 167, 0, 4, 3, 61, 132, 3, 1]
abbrev dktX12_isLacking_1 : List UInt8 := dkwX12_isLacking_1 ++ dktX12_isLacking_2
def dkwX12_isLacking_0 : List UInt8 := [3, 61, 42, 182, 0, 174, 62, 29, 27, 162, 0, 42, 28, 154, 0, 38, 42, 29, 182, 0, 198, 153, 0, 22]
abbrev dktX12_isLacking_0 : List UInt8 := dkwX12_isLacking_0 ++ dktX12_isLacking_1
theorem dksX12_isLacking_0 : cX12_isLacking.data.toList.drop 0 = dktX12_isLacking_0 := by decide +kernel
theorem dksX12_isLacking_1 : cX12_isLacking.data.toList.drop 24 = dktX12_isLacking_1 := dk_seg dksX12_isLacking_0 24 rfl rfl
theorem dksX12_isLacking_2 : cX12_isLacking.data.toList.drop 48 = dktX12_isLacking_2 := dk_seg dksX12_isLacking_1 24 rfl rfl
theorem dX12_isLacking_0 : decode cX12_isLacking 0 = .ok (.iconst 0, 1) := dk_3 (dk_at dksX12_isLacking_0 0 rfl rfl)
theorem dX12_isLacking_1 : decode cX12_isLacking 1 = .ok (.istore_n 2, 1) := dk_61 (dk_at dksX12_isLacking_0 1 rfl rfl)
theorem dX12_isLacking_2 : decode cX12_isLacking 2 = .ok (.aload_n 0, 1) := dk_42 (dk_at dksX12_isLacking_0 2 rfl rfl)
theorem dX12_isLacking_3 : decode cX12_isLacking 3 = .ok (.invokevirtual 174, 3) := dk_182 0 174 (dk_at dksX12_isLacking_0 3 rfl rfl)
theorem dX12_isLacking_6 : decode cX12_isLacking 6 = .ok (.istore_n 3, 1) := dk_62 (dk_at dksX12_isLacking_0 6 rfl rfl)
theorem dX12_isLacking_7 : decode cX12_isLacking 7 = .ok (.iload_n 3, 1) := dk_29 (dk_at dksX12_isLacking_0 7 rfl rfl)
theorem dX12_isLacking_8 : decode cX12_isLacking 8 = .ok (.iload_n 1, 1) := dk_27 (dk_at dksX12_isLacking_0 8 rfl rfl)
theorem dX12_isLacking_9 : decode cX12_isLacking 9 = .ok (.if_icmp .ge 42, 3) := dk_162 0 42 (dk_at dksX12_isLacking_0 9 rfl rfl)
theorem dX12_isLacking_12 : decode cX12_isLacking 12 = .ok (.iload_n 2, 1) := dk_28 (dk_at dksX12_isLacking_0 12 rfl rfl)
theorem dX12_isLacking_13 : decode cX12_isLacking 13 = .ok (.ifCond .ne 38, 3) := dk_154 0 38 (dk_at dksX12_isLacking_0 13 rfl rfl)
theorem dX12_isLacking_16 : decode cX12_isLacking 16 = .ok (.aload_n 0, 1) := dk_42 (dk_at dksX12_isLacking_0 16 rfl rfl)
theorem dX12_isLacking_17 : decode cX12_isLacking 17 = .ok (.iload_n 3, 1) := dk_29 (dk_at dksX12_isLacking_0 17 rfl rfl)
theorem dX12_isLacking_18 : decode cX12_isLacking 18 = .ok (.invokevirtual 198, 3) := dk_182 0 198 (dk_at dksX12_isLacking_0 18 rfl rfl)
theorem dX12_isLacking_21 : decode cX12_isLacking 21 = .ok (.ifCond .eq 22, 3) := dk_153 0 22 (dk_at dksX12_isLacking_0 21 rfl rfl)
theorem dX12_isLacking_24 : decode cX12_isLacking 24 = .ok (.aload_n 0, 1) := dk_42 (dk_at dksX12_isLacking_1 0 rfl rfl)
theorem dX12_isLacking_25 : decode cX12_isLacking 25 = .ok (.getfield 55, 3) := dk_180 0 55 (dk_at dksX12_isLacking_1 1 rfl rfl)
theorem dX12_isLacking_28 : decode cX12_isLacking 28 = .ok (.iload_n 3, 1) := dk_29 (dk_at dksX12_isLacking_1 4 rfl rfl)
theorem dX12_isLacking_29 : decode cX12_isLacking 29 = .ok (.iaload, 1) := dk_46 (dk_at dksX12_isLacking_1 5 rfl rfl)
theorem dX12_isLacking_30 : decode cX12_isLacking 30 = .ok (.aload_n 0, 1) := dk_42 (dk_at dksX12_isLacking_1 6 rfl rfl)
theorem dX12_isLacking_31 : decode cX12_isLacking 31 = .ok (.getfield 55, 3) := dk_180 0 55 (dk_at dksX12_isLacking_1 7 rfl rfl)
theorem dX12_isLacking_34 : decode cX12_isLacking 34 = .ok (.iload_n 1, 1) := dk_27 (dk_at dksX12_isLacking_1 10 rfl rfl)
theorem dX12_isLacking_35 : decode cX12_isLacking 35 = .ok (.iaload, 1) := dk_46 (dk_at dksX12_isLacking_1 11 rfl rfl)
theorem dX12_isLacking_36 : decode cX12_isLacking 36 = .ok (.if_icmp .ne 7, 3) := dk_160 0 7 (dk_at dksX12_isLacking_1 12 rfl rfl)
theorem dX12_isLacking_39 : decode cX12_isLacking 39 = .ok (.iconst 1, 1) := dk_4 (dk_at dksX12_isLacking_1 15 rfl rfl)
theorem dX12_isLacking_40 : decode cX12_isLacking 40 = .ok (.goto 4, 3) := dk_167 0 4 (dk_at dksX12_isLacking_1 16 rfl rfl)
theorem dX12_isLacking_43 : decode cX12_isLacking 43 = .ok (.iconst 0, 1) := dk_3 (dk_at dksX12_isLacking_1 19 rfl rfl)
theorem dX12_isLacking_44 : decode cX12_isLacking 44 = .ok (.istore_n 2, 1) := dk_61 (dk_at dksX12_isLacking_1 20 rfl rfl)
theorem dX12_isLacking_45 : decode cX12_isLacking 45 = .ok (.iinc 3 1, 3) := dk_132 3 1 (dk_at dksX12_isLacking_1 21 rfl rfl)
theorem dX12_isLacking_48 : decode cX12_isLacking 48 = .ok (.goto (-41), 3) := dk_167 255 215 (dk_at dksX12_isLacking_2 0 rfl rfl)
theorem dX12_isLacking_51 : decode cX12_isLacking 51 = .ok (.iload_n 2, 1) := dk_28 (dk_at dksX12_isLacking_2 3 rfl rfl)
theorem dX12_isLacking_52 : decode cX12_isLacking 52 = .ok (.ireturn, 1) := dk_172 (dk_at dksX12_isLacking_2 4 rfl rfl)
abbrev cX12_explain : ByteArray := prog_19_method_35_code
def yX12_explain : MethodName := ⟨RX12, "explain", "(III)I"⟩
def dkwX12_explain_5 : List UInt8 := [2, 172]
abbrev dktX12_explain_5 : List UInt8 := dkwX12_explain_5 ++ []
def dkwX12_explain_4 : List UInt8 := [42, 180, 0, 26, 180, 0, 246, 21, 5, 46, 167, 0, 4, 2, 172, 132, 4, 1, 132, 5, 1, 167, 255, 150]
abbrev dktX12_explain_4 : List UInt8 := dkwX12_explain_4 ++ dktX12_explain_5
def dkwX12_explain_3 : List UInt8 := [21, 5, 4, 96, 46, 42, 180, 0, 26, 180, 0, 157, 21, 5, 46, 100, 167, 0, 22, 29, 5, 160, 0, 16]
abbrev dktX12_explain_3 : List UInt8 := dkwX12_explain_3 ++ dktX12_explain_4
def dkwX12_explain_2 : List UInt8 := [160, 0, 63, 29, 154, 0, 8, 21, 5, 167, 0, 53, 29, 4, 160, 0, 29, 42, 180, 0, 26, 180, 0, 157]
abbrev dktX12_explain_2 : List UInt8 := dkwX12_explain_2 ++ dktX12_explain_3
def dkwX12_explain_1 : List UInt8 := [46, 4, 160, 0, 86, 42, 180, 0, 26, 180, 0, 185, 21, 5, 46, 27, 160, 0, 72, 21, 4, 28]
abbrev dktX12_explain_1 : List UInt8 := dkwX12_explain_1 ++ dktX12_explain_2
def dkwX12_explain_0 : List UInt8 := [3, 54, 4, 42, 182, 0, 174, 54, 5, 21, 5, 42, 182, 0, 178, 162, 0, 103, 42, 180, 0, 52, 21, 5]
abbrev dktX12_explain_0 : List UInt8 := dkwX12_explain_0 ++ dktX12_explain_1
theorem dksX12_explain_0 : cX12_explain.data.toList.drop 0 = dktX12_explain_0 := by decide +kernel
theorem dksX12_explain_1 : cX12_explain.data.toList.drop 24 = dktX12_explain_1 := dk_seg dksX12_explain_0 24 rfl rfl
theorem dksX12_explain_2 : cX12_explain.data.toList.drop 46 = dktX12_explain_2 := dk_seg dksX12_explain_1 22 rfl rfl
theorem dksX12_explain_3 : cX12_explain.data.toList.drop 70 = dktX12_explain_3 := dk_seg dksX12_explain_2 24 rfl rfl
theorem dksX12_explain_4 : cX12_explain.data.toList.drop 94 = dktX12_explain_4 := dk_seg dksX12_explain_3 24 rfl rfl
theorem dksX12_explain_5 : cX12_explain.data.toList.drop 118 = dktX12_explain_5 := dk_seg dksX12_explain_4 24 rfl rfl
theorem dX12_explain_0 : decode cX12_explain 0 = .ok (.iconst 0, 1) := dk_3 (dk_at dksX12_explain_0 0 rfl rfl)
theorem dX12_explain_1 : decode cX12_explain 1 = .ok (.istore 4, 2) := dk_54 4 (dk_at dksX12_explain_0 1 rfl rfl)
theorem dX12_explain_3 : decode cX12_explain 3 = .ok (.aload_n 0, 1) := dk_42 (dk_at dksX12_explain_0 3 rfl rfl)
theorem dX12_explain_4 : decode cX12_explain 4 = .ok (.invokevirtual 174, 3) := dk_182 0 174 (dk_at dksX12_explain_0 4 rfl rfl)
theorem dX12_explain_7 : decode cX12_explain 7 = .ok (.istore 5, 2) := dk_54 5 (dk_at dksX12_explain_0 7 rfl rfl)
theorem dX12_explain_9 : decode cX12_explain 9 = .ok (.iload 5, 2) := dk_21 5 (dk_at dksX12_explain_0 9 rfl rfl)
theorem dX12_explain_11 : decode cX12_explain 11 = .ok (.aload_n 0, 1) := dk_42 (dk_at dksX12_explain_0 11 rfl rfl)
theorem dX12_explain_12 : decode cX12_explain 12 = .ok (.invokevirtual 178, 3) := dk_182 0 178 (dk_at dksX12_explain_0 12 rfl rfl)
theorem dX12_explain_15 : decode cX12_explain 15 = .ok (.if_icmp .ge 103, 3) := dk_162 0 103 (dk_at dksX12_explain_0 15 rfl rfl)
theorem dX12_explain_18 : decode cX12_explain 18 = .ok (.aload_n 0, 1) := dk_42 (dk_at dksX12_explain_0 18 rfl rfl)
theorem dX12_explain_19 : decode cX12_explain 19 = .ok (.getfield 52, 3) := dk_180 0 52 (dk_at dksX12_explain_0 19 rfl rfl)
theorem dX12_explain_22 : decode cX12_explain 22 = .ok (.iload 5, 2) := dk_21 5 (dk_at dksX12_explain_0 22 rfl rfl)
theorem dX12_explain_24 : decode cX12_explain 24 = .ok (.iaload, 1) := dk_46 (dk_at dksX12_explain_1 0 rfl rfl)
theorem dX12_explain_25 : decode cX12_explain 25 = .ok (.iconst 1, 1) := dk_4 (dk_at dksX12_explain_1 1 rfl rfl)
theorem dX12_explain_26 : decode cX12_explain 26 = .ok (.if_icmp .ne 86, 3) := dk_160 0 86 (dk_at dksX12_explain_1 2 rfl rfl)
theorem dX12_explain_29 : decode cX12_explain 29 = .ok (.aload_n 0, 1) := dk_42 (dk_at dksX12_explain_1 5 rfl rfl)
theorem dX12_explain_30 : decode cX12_explain 30 = .ok (.getfield 26, 3) := dk_180 0 26 (dk_at dksX12_explain_1 6 rfl rfl)
theorem dX12_explain_33 : decode cX12_explain 33 = .ok (.getfield 185, 3) := dk_180 0 185 (dk_at dksX12_explain_1 9 rfl rfl)
theorem dX12_explain_36 : decode cX12_explain 36 = .ok (.iload 5, 2) := dk_21 5 (dk_at dksX12_explain_1 12 rfl rfl)
theorem dX12_explain_38 : decode cX12_explain 38 = .ok (.iaload, 1) := dk_46 (dk_at dksX12_explain_1 14 rfl rfl)
theorem dX12_explain_39 : decode cX12_explain 39 = .ok (.iload_n 1, 1) := dk_27 (dk_at dksX12_explain_1 15 rfl rfl)
theorem dX12_explain_40 : decode cX12_explain 40 = .ok (.if_icmp .ne 72, 3) := dk_160 0 72 (dk_at dksX12_explain_1 16 rfl rfl)
theorem dX12_explain_43 : decode cX12_explain 43 = .ok (.iload 4, 2) := dk_21 4 (dk_at dksX12_explain_1 19 rfl rfl)
theorem dX12_explain_45 : decode cX12_explain 45 = .ok (.iload_n 2, 1) := dk_28 (dk_at dksX12_explain_1 21 rfl rfl)
theorem dX12_explain_46 : decode cX12_explain 46 = .ok (.if_icmp .ne 63, 3) := dk_160 0 63 (dk_at dksX12_explain_2 0 rfl rfl)
theorem dX12_explain_49 : decode cX12_explain 49 = .ok (.iload_n 3, 1) := dk_29 (dk_at dksX12_explain_2 3 rfl rfl)
theorem dX12_explain_50 : decode cX12_explain 50 = .ok (.ifCond .ne 8, 3) := dk_154 0 8 (dk_at dksX12_explain_2 4 rfl rfl)
theorem dX12_explain_53 : decode cX12_explain 53 = .ok (.iload 5, 2) := dk_21 5 (dk_at dksX12_explain_2 7 rfl rfl)
theorem dX12_explain_55 : decode cX12_explain 55 = .ok (.goto 53, 3) := dk_167 0 53 (dk_at dksX12_explain_2 9 rfl rfl)
theorem dX12_explain_58 : decode cX12_explain 58 = .ok (.iload_n 3, 1) := dk_29 (dk_at dksX12_explain_2 12 rfl rfl)
theorem dX12_explain_59 : decode cX12_explain 59 = .ok (.iconst 1, 1) := dk_4 (dk_at dksX12_explain_2 13 rfl rfl)
theorem dX12_explain_60 : decode cX12_explain 60 = .ok (.if_icmp .ne 29, 3) := dk_160 0 29 (dk_at dksX12_explain_2 14 rfl rfl)
theorem dX12_explain_63 : decode cX12_explain 63 = .ok (.aload_n 0, 1) := dk_42 (dk_at dksX12_explain_2 17 rfl rfl)
theorem dX12_explain_64 : decode cX12_explain 64 = .ok (.getfield 26, 3) := dk_180 0 26 (dk_at dksX12_explain_2 18 rfl rfl)
theorem dX12_explain_67 : decode cX12_explain 67 = .ok (.getfield 157, 3) := dk_180 0 157 (dk_at dksX12_explain_2 21 rfl rfl)
theorem dX12_explain_70 : decode cX12_explain 70 = .ok (.iload 5, 2) := dk_21 5 (dk_at dksX12_explain_3 0 rfl rfl)
theorem dX12_explain_72 : decode cX12_explain 72 = .ok (.iconst 1, 1) := dk_4 (dk_at dksX12_explain_3 2 rfl rfl)
theorem dX12_explain_73 : decode cX12_explain 73 = .ok (.iadd, 1) := dk_96 (dk_at dksX12_explain_3 3 rfl rfl)
theorem dX12_explain_74 : decode cX12_explain 74 = .ok (.iaload, 1) := dk_46 (dk_at dksX12_explain_3 4 rfl rfl)
theorem dX12_explain_75 : decode cX12_explain 75 = .ok (.aload_n 0, 1) := dk_42 (dk_at dksX12_explain_3 5 rfl rfl)
theorem dX12_explain_76 : decode cX12_explain 76 = .ok (.getfield 26, 3) := dk_180 0 26 (dk_at dksX12_explain_3 6 rfl rfl)
theorem dX12_explain_79 : decode cX12_explain 79 = .ok (.getfield 157, 3) := dk_180 0 157 (dk_at dksX12_explain_3 9 rfl rfl)
theorem dX12_explain_82 : decode cX12_explain 82 = .ok (.iload 5, 2) := dk_21 5 (dk_at dksX12_explain_3 12 rfl rfl)
theorem dX12_explain_84 : decode cX12_explain 84 = .ok (.iaload, 1) := dk_46 (dk_at dksX12_explain_3 14 rfl rfl)
theorem dX12_explain_85 : decode cX12_explain 85 = .ok (.isub, 1) := dk_100 (dk_at dksX12_explain_3 15 rfl rfl)
theorem dX12_explain_86 : decode cX12_explain 86 = .ok (.goto 22, 3) := dk_167 0 22 (dk_at dksX12_explain_3 16 rfl rfl)
theorem dX12_explain_89 : decode cX12_explain 89 = .ok (.iload_n 3, 1) := dk_29 (dk_at dksX12_explain_3 19 rfl rfl)
theorem dX12_explain_90 : decode cX12_explain 90 = .ok (.iconst 2, 1) := dk_5 (dk_at dksX12_explain_3 20 rfl rfl)
theorem dX12_explain_91 : decode cX12_explain 91 = .ok (.if_icmp .ne 16, 3) := dk_160 0 16 (dk_at dksX12_explain_3 21 rfl rfl)
theorem dX12_explain_94 : decode cX12_explain 94 = .ok (.aload_n 0, 1) := dk_42 (dk_at dksX12_explain_4 0 rfl rfl)
theorem dX12_explain_95 : decode cX12_explain 95 = .ok (.getfield 26, 3) := dk_180 0 26 (dk_at dksX12_explain_4 1 rfl rfl)
theorem dX12_explain_98 : decode cX12_explain 98 = .ok (.getfield 246, 3) := dk_180 0 246 (dk_at dksX12_explain_4 4 rfl rfl)
theorem dX12_explain_101 : decode cX12_explain 101 = .ok (.iload 5, 2) := dk_21 5 (dk_at dksX12_explain_4 7 rfl rfl)
theorem dX12_explain_103 : decode cX12_explain 103 = .ok (.iaload, 1) := dk_46 (dk_at dksX12_explain_4 9 rfl rfl)
theorem dX12_explain_104 : decode cX12_explain 104 = .ok (.goto 4, 3) := dk_167 0 4 (dk_at dksX12_explain_4 10 rfl rfl)
theorem dX12_explain_107 : decode cX12_explain 107 = .ok (.iconst (-1), 1) := dk_2 (dk_at dksX12_explain_4 13 rfl rfl)
theorem dX12_explain_108 : decode cX12_explain 108 = .ok (.ireturn, 1) := dk_172 (dk_at dksX12_explain_4 14 rfl rfl)
theorem dX12_explain_109 : decode cX12_explain 109 = .ok (.iinc 4 1, 3) := dk_132 4 1 (dk_at dksX12_explain_4 15 rfl rfl)
theorem dX12_explain_112 : decode cX12_explain 112 = .ok (.iinc 5 1, 3) := dk_132 5 1 (dk_at dksX12_explain_4 18 rfl rfl)
theorem dX12_explain_115 : decode cX12_explain 115 = .ok (.goto (-106), 3) := dk_167 255 150 (dk_at dksX12_explain_4 21 rfl rfl)
theorem dX12_explain_118 : decode cX12_explain 118 = .ok (.iconst (-1), 1) := dk_2 (dk_at dksX12_explain_5 0 rfl rfl)
theorem dX12_explain_119 : decode cX12_explain 119 = .ok (.ireturn, 1) := dk_172 (dk_at dksX12_explain_5 1 rfl rfl)
abbrev cX12_limit : ByteArray := prog_19_method_36_code
def yX12_limit : MethodName := ⟨RX12, "limit", "(I)J"⟩
def dkwX12_limit_6 : List UInt8 := [65, 132, 5, 1, 167, 255, 144, 132, 4, 1, 167, 255, 117, 32, 173]
abbrev dktX12_limit_6 : List UInt8 := dkwX12_limit_6 ++ []
def dkwX12_limit_5 : List UInt8 := [21, 5, 46, 133, 32, 148, 156, 0, 17, 42, 180, 0, 26, 180, 0, 138, 21, 5, 46, 133, 167, 0, 4, 32]
abbrev dktX12_limit_5 : List UInt8 := dkwX12_limit_5 ++ dktX12_limit_6
def dkwX12_limit_4 : List UInt8 := [167, 0, 4, 3, 54, 6, 21, 6, 153, 0, 39, 32, 9, 148, 155, 0, 19, 42, 180, 0, 26, 180, 0, 138]
abbrev dktX12_limit_4 : List UInt8 := dkwX12_limit_4 ++ dktX12_limit_5
def dkwX12_limit_3 : List UInt8 := [21, 5, 46, 5, 160, 0, 21, 42, 180, 0, 26, 180, 0, 135, 21, 5, 46, 4, 160, 0, 7, 4]
abbrev dktX12_limit_3 : List UInt8 := dkwX12_limit_3 ++ dktX12_limit_4
def dkwX12_limit_2 : List UInt8 := [162, 0, 101, 42, 180, 0, 26, 180, 0, 185, 21, 4, 46, 27, 160, 0, 87, 42, 180, 0, 26, 180, 0, 132]
abbrev dktX12_limit_2 : List UInt8 := dkwX12_limit_2 ++ dktX12_limit_3
def dkwX12_limit_1 : List UInt8 := [180, 0, 157, 21, 4, 46, 54, 5, 21, 5, 42, 180, 0, 26, 180, 0, 157, 21, 4, 4, 96, 46]
abbrev dktX12_limit_1 : List UInt8 := dkwX12_limit_1 ++ dktX12_limit_2
def dkwX12_limit_0 : List UInt8 := [20, 1, 15, 65, 42, 182, 0, 174, 54, 4, 21, 4, 42, 182, 0, 178, 162, 0, 136, 42, 180, 0, 26]
abbrev dktX12_limit_0 : List UInt8 := dkwX12_limit_0 ++ dktX12_limit_1
theorem dksX12_limit_0 : cX12_limit.data.toList.drop 0 = dktX12_limit_0 := by decide +kernel
theorem dksX12_limit_1 : cX12_limit.data.toList.drop 23 = dktX12_limit_1 := dk_seg dksX12_limit_0 23 rfl rfl
theorem dksX12_limit_2 : cX12_limit.data.toList.drop 45 = dktX12_limit_2 := dk_seg dksX12_limit_1 22 rfl rfl
theorem dksX12_limit_3 : cX12_limit.data.toList.drop 69 = dktX12_limit_3 := dk_seg dksX12_limit_2 24 rfl rfl
theorem dksX12_limit_4 : cX12_limit.data.toList.drop 91 = dktX12_limit_4 := dk_seg dksX12_limit_3 22 rfl rfl
theorem dksX12_limit_5 : cX12_limit.data.toList.drop 115 = dktX12_limit_5 := dk_seg dksX12_limit_4 24 rfl rfl
theorem dksX12_limit_6 : cX12_limit.data.toList.drop 139 = dktX12_limit_6 := dk_seg dksX12_limit_5 24 rfl rfl
theorem dX12_limit_0 : decode cX12_limit 0 = .ok (.ldc2_w 271, 3) := dk_20 1 15 (dk_at dksX12_limit_0 0 rfl rfl)
theorem dX12_limit_3 : decode cX12_limit 3 = .ok (.lstore_n 2, 1) := dk_65 (dk_at dksX12_limit_0 3 rfl rfl)
theorem dX12_limit_4 : decode cX12_limit 4 = .ok (.aload_n 0, 1) := dk_42 (dk_at dksX12_limit_0 4 rfl rfl)
theorem dX12_limit_5 : decode cX12_limit 5 = .ok (.invokevirtual 174, 3) := dk_182 0 174 (dk_at dksX12_limit_0 5 rfl rfl)
theorem dX12_limit_8 : decode cX12_limit 8 = .ok (.istore 4, 2) := dk_54 4 (dk_at dksX12_limit_0 8 rfl rfl)
theorem dX12_limit_10 : decode cX12_limit 10 = .ok (.iload 4, 2) := dk_21 4 (dk_at dksX12_limit_0 10 rfl rfl)
theorem dX12_limit_12 : decode cX12_limit 12 = .ok (.aload_n 0, 1) := dk_42 (dk_at dksX12_limit_0 12 rfl rfl)
theorem dX12_limit_13 : decode cX12_limit 13 = .ok (.invokevirtual 178, 3) := dk_182 0 178 (dk_at dksX12_limit_0 13 rfl rfl)
theorem dX12_limit_16 : decode cX12_limit 16 = .ok (.if_icmp .ge 136, 3) := dk_162 0 136 (dk_at dksX12_limit_0 16 rfl rfl)
theorem dX12_limit_19 : decode cX12_limit 19 = .ok (.aload_n 0, 1) := dk_42 (dk_at dksX12_limit_0 19 rfl rfl)
theorem dX12_limit_20 : decode cX12_limit 20 = .ok (.getfield 26, 3) := dk_180 0 26 (dk_at dksX12_limit_0 20 rfl rfl)
theorem dX12_limit_23 : decode cX12_limit 23 = .ok (.getfield 157, 3) := dk_180 0 157 (dk_at dksX12_limit_1 0 rfl rfl)
theorem dX12_limit_26 : decode cX12_limit 26 = .ok (.iload 4, 2) := dk_21 4 (dk_at dksX12_limit_1 3 rfl rfl)
theorem dX12_limit_28 : decode cX12_limit 28 = .ok (.iaload, 1) := dk_46 (dk_at dksX12_limit_1 5 rfl rfl)
theorem dX12_limit_29 : decode cX12_limit 29 = .ok (.istore 5, 2) := dk_54 5 (dk_at dksX12_limit_1 6 rfl rfl)
theorem dX12_limit_31 : decode cX12_limit 31 = .ok (.iload 5, 2) := dk_21 5 (dk_at dksX12_limit_1 8 rfl rfl)
theorem dX12_limit_33 : decode cX12_limit 33 = .ok (.aload_n 0, 1) := dk_42 (dk_at dksX12_limit_1 10 rfl rfl)
theorem dX12_limit_34 : decode cX12_limit 34 = .ok (.getfield 26, 3) := dk_180 0 26 (dk_at dksX12_limit_1 11 rfl rfl)
theorem dX12_limit_37 : decode cX12_limit 37 = .ok (.getfield 157, 3) := dk_180 0 157 (dk_at dksX12_limit_1 14 rfl rfl)
theorem dX12_limit_40 : decode cX12_limit 40 = .ok (.iload 4, 2) := dk_21 4 (dk_at dksX12_limit_1 17 rfl rfl)
theorem dX12_limit_42 : decode cX12_limit 42 = .ok (.iconst 1, 1) := dk_4 (dk_at dksX12_limit_1 19 rfl rfl)
theorem dX12_limit_43 : decode cX12_limit 43 = .ok (.iadd, 1) := dk_96 (dk_at dksX12_limit_1 20 rfl rfl)
theorem dX12_limit_44 : decode cX12_limit 44 = .ok (.iaload, 1) := dk_46 (dk_at dksX12_limit_1 21 rfl rfl)
theorem dX12_limit_45 : decode cX12_limit 45 = .ok (.if_icmp .ge 101, 3) := dk_162 0 101 (dk_at dksX12_limit_2 0 rfl rfl)
theorem dX12_limit_48 : decode cX12_limit 48 = .ok (.aload_n 0, 1) := dk_42 (dk_at dksX12_limit_2 3 rfl rfl)
theorem dX12_limit_49 : decode cX12_limit 49 = .ok (.getfield 26, 3) := dk_180 0 26 (dk_at dksX12_limit_2 4 rfl rfl)
theorem dX12_limit_52 : decode cX12_limit 52 = .ok (.getfield 185, 3) := dk_180 0 185 (dk_at dksX12_limit_2 7 rfl rfl)
theorem dX12_limit_55 : decode cX12_limit 55 = .ok (.iload 4, 2) := dk_21 4 (dk_at dksX12_limit_2 10 rfl rfl)
theorem dX12_limit_57 : decode cX12_limit 57 = .ok (.iaload, 1) := dk_46 (dk_at dksX12_limit_2 12 rfl rfl)
theorem dX12_limit_58 : decode cX12_limit 58 = .ok (.iload_n 1, 1) := dk_27 (dk_at dksX12_limit_2 13 rfl rfl)
theorem dX12_limit_59 : decode cX12_limit 59 = .ok (.if_icmp .ne 87, 3) := dk_160 0 87 (dk_at dksX12_limit_2 14 rfl rfl)
theorem dX12_limit_62 : decode cX12_limit 62 = .ok (.aload_n 0, 1) := dk_42 (dk_at dksX12_limit_2 17 rfl rfl)
theorem dX12_limit_63 : decode cX12_limit 63 = .ok (.getfield 26, 3) := dk_180 0 26 (dk_at dksX12_limit_2 18 rfl rfl)
theorem dX12_limit_66 : decode cX12_limit 66 = .ok (.getfield 132, 3) := dk_180 0 132 (dk_at dksX12_limit_2 21 rfl rfl)
theorem dX12_limit_69 : decode cX12_limit 69 = .ok (.iload 5, 2) := dk_21 5 (dk_at dksX12_limit_3 0 rfl rfl)
theorem dX12_limit_71 : decode cX12_limit 71 = .ok (.iaload, 1) := dk_46 (dk_at dksX12_limit_3 2 rfl rfl)
theorem dX12_limit_72 : decode cX12_limit 72 = .ok (.iconst 2, 1) := dk_5 (dk_at dksX12_limit_3 3 rfl rfl)
theorem dX12_limit_73 : decode cX12_limit 73 = .ok (.if_icmp .ne 21, 3) := dk_160 0 21 (dk_at dksX12_limit_3 4 rfl rfl)
theorem dX12_limit_76 : decode cX12_limit 76 = .ok (.aload_n 0, 1) := dk_42 (dk_at dksX12_limit_3 7 rfl rfl)
theorem dX12_limit_77 : decode cX12_limit 77 = .ok (.getfield 26, 3) := dk_180 0 26 (dk_at dksX12_limit_3 8 rfl rfl)
theorem dX12_limit_80 : decode cX12_limit 80 = .ok (.getfield 135, 3) := dk_180 0 135 (dk_at dksX12_limit_3 11 rfl rfl)
theorem dX12_limit_83 : decode cX12_limit 83 = .ok (.iload 5, 2) := dk_21 5 (dk_at dksX12_limit_3 14 rfl rfl)
theorem dX12_limit_85 : decode cX12_limit 85 = .ok (.iaload, 1) := dk_46 (dk_at dksX12_limit_3 16 rfl rfl)
theorem dX12_limit_86 : decode cX12_limit 86 = .ok (.iconst 1, 1) := dk_4 (dk_at dksX12_limit_3 17 rfl rfl)
theorem dX12_limit_87 : decode cX12_limit 87 = .ok (.if_icmp .ne 7, 3) := dk_160 0 7 (dk_at dksX12_limit_3 18 rfl rfl)
theorem dX12_limit_90 : decode cX12_limit 90 = .ok (.iconst 1, 1) := dk_4 (dk_at dksX12_limit_3 21 rfl rfl)
theorem dX12_limit_91 : decode cX12_limit 91 = .ok (.goto 4, 3) := dk_167 0 4 (dk_at dksX12_limit_4 0 rfl rfl)
theorem dX12_limit_94 : decode cX12_limit 94 = .ok (.iconst 0, 1) := dk_3 (dk_at dksX12_limit_4 3 rfl rfl)
theorem dX12_limit_95 : decode cX12_limit 95 = .ok (.istore 6, 2) := dk_54 6 (dk_at dksX12_limit_4 4 rfl rfl)
theorem dX12_limit_97 : decode cX12_limit 97 = .ok (.iload 6, 2) := dk_21 6 (dk_at dksX12_limit_4 6 rfl rfl)
theorem dX12_limit_99 : decode cX12_limit 99 = .ok (.ifCond .eq 39, 3) := dk_153 0 39 (dk_at dksX12_limit_4 8 rfl rfl)
theorem dX12_limit_102 : decode cX12_limit 102 = .ok (.lload_n 2, 1) := dk_32 (dk_at dksX12_limit_4 11 rfl rfl)
theorem dX12_limit_103 : decode cX12_limit 103 = .ok (.lconst 0, 1) := dk_9 (dk_at dksX12_limit_4 12 rfl rfl)
theorem dX12_limit_104 : decode cX12_limit 104 = .ok (.lcmp, 1) := dk_148 (dk_at dksX12_limit_4 13 rfl rfl)
theorem dX12_limit_105 : decode cX12_limit 105 = .ok (.ifCond .lt 19, 3) := dk_155 0 19 (dk_at dksX12_limit_4 14 rfl rfl)
theorem dX12_limit_108 : decode cX12_limit 108 = .ok (.aload_n 0, 1) := dk_42 (dk_at dksX12_limit_4 17 rfl rfl)
theorem dX12_limit_109 : decode cX12_limit 109 = .ok (.getfield 26, 3) := dk_180 0 26 (dk_at dksX12_limit_4 18 rfl rfl)
theorem dX12_limit_112 : decode cX12_limit 112 = .ok (.getfield 138, 3) := dk_180 0 138 (dk_at dksX12_limit_4 21 rfl rfl)
theorem dX12_limit_115 : decode cX12_limit 115 = .ok (.iload 5, 2) := dk_21 5 (dk_at dksX12_limit_5 0 rfl rfl)
theorem dX12_limit_117 : decode cX12_limit 117 = .ok (.iaload, 1) := dk_46 (dk_at dksX12_limit_5 2 rfl rfl)
theorem dX12_limit_118 : decode cX12_limit 118 = .ok (.i2l, 1) := dk_133 (dk_at dksX12_limit_5 3 rfl rfl)
theorem dX12_limit_119 : decode cX12_limit 119 = .ok (.lload_n 2, 1) := dk_32 (dk_at dksX12_limit_5 4 rfl rfl)
theorem dX12_limit_120 : decode cX12_limit 120 = .ok (.lcmp, 1) := dk_148 (dk_at dksX12_limit_5 5 rfl rfl)
theorem dX12_limit_121 : decode cX12_limit 121 = .ok (.ifCond .ge 17, 3) := dk_156 0 17 (dk_at dksX12_limit_5 6 rfl rfl)
theorem dX12_limit_124 : decode cX12_limit 124 = .ok (.aload_n 0, 1) := dk_42 (dk_at dksX12_limit_5 9 rfl rfl)
theorem dX12_limit_125 : decode cX12_limit 125 = .ok (.getfield 26, 3) := dk_180 0 26 (dk_at dksX12_limit_5 10 rfl rfl)
theorem dX12_limit_128 : decode cX12_limit 128 = .ok (.getfield 138, 3) := dk_180 0 138 (dk_at dksX12_limit_5 13 rfl rfl)
theorem dX12_limit_131 : decode cX12_limit 131 = .ok (.iload 5, 2) := dk_21 5 (dk_at dksX12_limit_5 16 rfl rfl)
theorem dX12_limit_133 : decode cX12_limit 133 = .ok (.iaload, 1) := dk_46 (dk_at dksX12_limit_5 18 rfl rfl)
theorem dX12_limit_134 : decode cX12_limit 134 = .ok (.i2l, 1) := dk_133 (dk_at dksX12_limit_5 19 rfl rfl)
theorem dX12_limit_135 : decode cX12_limit 135 = .ok (.goto 4, 3) := dk_167 0 4 (dk_at dksX12_limit_5 20 rfl rfl)
theorem dX12_limit_138 : decode cX12_limit 138 = .ok (.lload_n 2, 1) := dk_32 (dk_at dksX12_limit_5 23 rfl rfl)
theorem dX12_limit_139 : decode cX12_limit 139 = .ok (.lstore_n 2, 1) := dk_65 (dk_at dksX12_limit_6 0 rfl rfl)
theorem dX12_limit_140 : decode cX12_limit 140 = .ok (.iinc 5 1, 3) := dk_132 5 1 (dk_at dksX12_limit_6 1 rfl rfl)
theorem dX12_limit_143 : decode cX12_limit 143 = .ok (.goto (-112), 3) := dk_167 255 144 (dk_at dksX12_limit_6 4 rfl rfl)
theorem dX12_limit_146 : decode cX12_limit 146 = .ok (.iinc 4 1, 3) := dk_132 4 1 (dk_at dksX12_limit_6 7 rfl rfl)
theorem dX12_limit_149 : decode cX12_limit 149 = .ok (.goto (-139), 3) := dk_167 255 117 (dk_at dksX12_limit_6 10 rfl rfl)
theorem dX12_limit_152 : decode cX12_limit 152 = .ok (.lload_n 2, 1) := dk_32 (dk_at dksX12_limit_6 13 rfl rfl)
theorem dX12_limit_153 : decode cX12_limit 153 = .ok (.lreturn, 1) := dk_173 (dk_at dksX12_limit_6 14 rfl rfl)
abbrev cX12_sum : ByteArray := prog_19_method_38_code
def yX12_sum : MethodName := ⟨RX12, "sum", "(III)J"⟩
def dkwX12_sum_5 : List UInt8 := [160, 0, 8, 22, 5, 167, 0, 4, 9, 173]
abbrev dktX12_sum_5 : List UInt8 := dkwX12_sum_5 ++ []
def dkwX12_sum_4 : List UInt8 := [42, 21, 4, 28, 4, 160, 0, 7, 4, 167, 0, 4, 3, 29, 182, 0, 149, 55, 5, 42, 180, 0, 116, 2]
abbrev dktX12_sum_4 : List UInt8 := dkwX12_sum_4 ++ dktX12_sum_5
def dkwX12_sum_3 : List UInt8 := [132, 4, 1, 167, 255, 223, 21, 4, 42, 180, 0, 26, 180, 0, 157, 27, 4, 96, 46, 160, 0, 5, 9, 173]
abbrev dktX12_sum_3 : List UInt8 := dkwX12_sum_3 ++ dktX12_sum_4
def dkwX12_sum_2 : List UInt8 := [180, 0, 157, 27, 4, 96, 46, 162, 0, 23, 42, 180, 0, 26, 180, 0, 132, 21, 4, 46, 5, 159, 0, 9]
abbrev dktX12_sum_2 : List UInt8 := dkwX12_sum_2 ++ dktX12_sum_3
def dkwX12_sum_1 : List UInt8 := [16, 16, 161, 0, 5, 9, 173, 42, 180, 0, 26, 180, 0, 157, 27, 46, 54, 4, 21, 4, 42, 180, 0, 26]
abbrev dktX12_sum_1 : List UInt8 := dkwX12_sum_1 ++ dktX12_sum_2
def dkwX12_sum_0 : List UInt8 := [42, 27, 182, 1, 17, 153, 0, 23, 28, 155, 0, 19, 28, 4, 163, 0, 14, 29, 2, 161, 0, 9, 29]
abbrev dktX12_sum_0 : List UInt8 := dkwX12_sum_0 ++ dktX12_sum_1
theorem dksX12_sum_0 : cX12_sum.data.toList.drop 0 = dktX12_sum_0 := by decide +kernel
theorem dksX12_sum_1 : cX12_sum.data.toList.drop 23 = dktX12_sum_1 := dk_seg dksX12_sum_0 23 rfl rfl
theorem dksX12_sum_2 : cX12_sum.data.toList.drop 47 = dktX12_sum_2 := dk_seg dksX12_sum_1 24 rfl rfl
theorem dksX12_sum_3 : cX12_sum.data.toList.drop 71 = dktX12_sum_3 := dk_seg dksX12_sum_2 24 rfl rfl
theorem dksX12_sum_4 : cX12_sum.data.toList.drop 95 = dktX12_sum_4 := dk_seg dksX12_sum_3 24 rfl rfl
theorem dksX12_sum_5 : cX12_sum.data.toList.drop 119 = dktX12_sum_5 := dk_seg dksX12_sum_4 24 rfl rfl
theorem dX12_sum_0 : decode cX12_sum 0 = .ok (.aload_n 0, 1) := dk_42 (dk_at dksX12_sum_0 0 rfl rfl)
theorem dX12_sum_1 : decode cX12_sum 1 = .ok (.iload_n 1, 1) := dk_27 (dk_at dksX12_sum_0 1 rfl rfl)
theorem dX12_sum_2 : decode cX12_sum 2 = .ok (.invokevirtual 273, 3) := dk_182 1 17 (dk_at dksX12_sum_0 2 rfl rfl)
theorem dX12_sum_5 : decode cX12_sum 5 = .ok (.ifCond .eq 23, 3) := dk_153 0 23 (dk_at dksX12_sum_0 5 rfl rfl)
theorem dX12_sum_8 : decode cX12_sum 8 = .ok (.iload_n 2, 1) := dk_28 (dk_at dksX12_sum_0 8 rfl rfl)
theorem dX12_sum_9 : decode cX12_sum 9 = .ok (.ifCond .lt 19, 3) := dk_155 0 19 (dk_at dksX12_sum_0 9 rfl rfl)
theorem dX12_sum_12 : decode cX12_sum 12 = .ok (.iload_n 2, 1) := dk_28 (dk_at dksX12_sum_0 12 rfl rfl)
theorem dX12_sum_13 : decode cX12_sum 13 = .ok (.iconst 1, 1) := dk_4 (dk_at dksX12_sum_0 13 rfl rfl)
theorem dX12_sum_14 : decode cX12_sum 14 = .ok (.if_icmp .gt 14, 3) := dk_163 0 14 (dk_at dksX12_sum_0 14 rfl rfl)
theorem dX12_sum_17 : decode cX12_sum 17 = .ok (.iload_n 3, 1) := dk_29 (dk_at dksX12_sum_0 17 rfl rfl)
theorem dX12_sum_18 : decode cX12_sum 18 = .ok (.iconst (-1), 1) := dk_2 (dk_at dksX12_sum_0 18 rfl rfl)
theorem dX12_sum_19 : decode cX12_sum 19 = .ok (.if_icmp .lt 9, 3) := dk_161 0 9 (dk_at dksX12_sum_0 19 rfl rfl)
theorem dX12_sum_22 : decode cX12_sum 22 = .ok (.iload_n 3, 1) := dk_29 (dk_at dksX12_sum_0 22 rfl rfl)
theorem dX12_sum_23 : decode cX12_sum 23 = .ok (.bipush 16, 2) := dk_16 16 (dk_at dksX12_sum_1 0 rfl rfl)
theorem dX12_sum_25 : decode cX12_sum 25 = .ok (.if_icmp .lt 5, 3) := dk_161 0 5 (dk_at dksX12_sum_1 2 rfl rfl)
theorem dX12_sum_28 : decode cX12_sum 28 = .ok (.lconst 0, 1) := dk_9 (dk_at dksX12_sum_1 5 rfl rfl)
theorem dX12_sum_29 : decode cX12_sum 29 = .ok (.lreturn, 1) := dk_173 (dk_at dksX12_sum_1 6 rfl rfl)
theorem dX12_sum_30 : decode cX12_sum 30 = .ok (.aload_n 0, 1) := dk_42 (dk_at dksX12_sum_1 7 rfl rfl)
theorem dX12_sum_31 : decode cX12_sum 31 = .ok (.getfield 26, 3) := dk_180 0 26 (dk_at dksX12_sum_1 8 rfl rfl)
theorem dX12_sum_34 : decode cX12_sum 34 = .ok (.getfield 157, 3) := dk_180 0 157 (dk_at dksX12_sum_1 11 rfl rfl)
theorem dX12_sum_37 : decode cX12_sum 37 = .ok (.iload_n 1, 1) := dk_27 (dk_at dksX12_sum_1 14 rfl rfl)
theorem dX12_sum_38 : decode cX12_sum 38 = .ok (.iaload, 1) := dk_46 (dk_at dksX12_sum_1 15 rfl rfl)
theorem dX12_sum_39 : decode cX12_sum 39 = .ok (.istore 4, 2) := dk_54 4 (dk_at dksX12_sum_1 16 rfl rfl)
theorem dX12_sum_41 : decode cX12_sum 41 = .ok (.iload 4, 2) := dk_21 4 (dk_at dksX12_sum_1 18 rfl rfl)
theorem dX12_sum_43 : decode cX12_sum 43 = .ok (.aload_n 0, 1) := dk_42 (dk_at dksX12_sum_1 20 rfl rfl)
theorem dX12_sum_44 : decode cX12_sum 44 = .ok (.getfield 26, 3) := dk_180 0 26 (dk_at dksX12_sum_1 21 rfl rfl)
theorem dX12_sum_47 : decode cX12_sum 47 = .ok (.getfield 157, 3) := dk_180 0 157 (dk_at dksX12_sum_2 0 rfl rfl)
theorem dX12_sum_50 : decode cX12_sum 50 = .ok (.iload_n 1, 1) := dk_27 (dk_at dksX12_sum_2 3 rfl rfl)
theorem dX12_sum_51 : decode cX12_sum 51 = .ok (.iconst 1, 1) := dk_4 (dk_at dksX12_sum_2 4 rfl rfl)
theorem dX12_sum_52 : decode cX12_sum 52 = .ok (.iadd, 1) := dk_96 (dk_at dksX12_sum_2 5 rfl rfl)
theorem dX12_sum_53 : decode cX12_sum 53 = .ok (.iaload, 1) := dk_46 (dk_at dksX12_sum_2 6 rfl rfl)
theorem dX12_sum_54 : decode cX12_sum 54 = .ok (.if_icmp .ge 23, 3) := dk_162 0 23 (dk_at dksX12_sum_2 7 rfl rfl)
theorem dX12_sum_57 : decode cX12_sum 57 = .ok (.aload_n 0, 1) := dk_42 (dk_at dksX12_sum_2 10 rfl rfl)
theorem dX12_sum_58 : decode cX12_sum 58 = .ok (.getfield 26, 3) := dk_180 0 26 (dk_at dksX12_sum_2 11 rfl rfl)
theorem dX12_sum_61 : decode cX12_sum 61 = .ok (.getfield 132, 3) := dk_180 0 132 (dk_at dksX12_sum_2 14 rfl rfl)
theorem dX12_sum_64 : decode cX12_sum 64 = .ok (.iload 4, 2) := dk_21 4 (dk_at dksX12_sum_2 17 rfl rfl)
theorem dX12_sum_66 : decode cX12_sum 66 = .ok (.iaload, 1) := dk_46 (dk_at dksX12_sum_2 19 rfl rfl)
theorem dX12_sum_67 : decode cX12_sum 67 = .ok (.iconst 2, 1) := dk_5 (dk_at dksX12_sum_2 20 rfl rfl)
theorem dX12_sum_68 : decode cX12_sum 68 = .ok (.if_icmp .eq 9, 3) := dk_159 0 9 (dk_at dksX12_sum_2 21 rfl rfl)
theorem dX12_sum_71 : decode cX12_sum 71 = .ok (.iinc 4 1, 3) := dk_132 4 1 (dk_at dksX12_sum_3 0 rfl rfl)
theorem dX12_sum_74 : decode cX12_sum 74 = .ok (.goto (-33), 3) := dk_167 255 223 (dk_at dksX12_sum_3 3 rfl rfl)
theorem dX12_sum_77 : decode cX12_sum 77 = .ok (.iload 4, 2) := dk_21 4 (dk_at dksX12_sum_3 6 rfl rfl)
theorem dX12_sum_79 : decode cX12_sum 79 = .ok (.aload_n 0, 1) := dk_42 (dk_at dksX12_sum_3 8 rfl rfl)
theorem dX12_sum_80 : decode cX12_sum 80 = .ok (.getfield 26, 3) := dk_180 0 26 (dk_at dksX12_sum_3 9 rfl rfl)
theorem dX12_sum_83 : decode cX12_sum 83 = .ok (.getfield 157, 3) := dk_180 0 157 (dk_at dksX12_sum_3 12 rfl rfl)
theorem dX12_sum_86 : decode cX12_sum 86 = .ok (.iload_n 1, 1) := dk_27 (dk_at dksX12_sum_3 15 rfl rfl)
theorem dX12_sum_87 : decode cX12_sum 87 = .ok (.iconst 1, 1) := dk_4 (dk_at dksX12_sum_3 16 rfl rfl)
theorem dX12_sum_88 : decode cX12_sum 88 = .ok (.iadd, 1) := dk_96 (dk_at dksX12_sum_3 17 rfl rfl)
theorem dX12_sum_89 : decode cX12_sum 89 = .ok (.iaload, 1) := dk_46 (dk_at dksX12_sum_3 18 rfl rfl)
theorem dX12_sum_90 : decode cX12_sum 90 = .ok (.if_icmp .ne 5, 3) := dk_160 0 5 (dk_at dksX12_sum_3 19 rfl rfl)
theorem dX12_sum_93 : decode cX12_sum 93 = .ok (.lconst 0, 1) := dk_9 (dk_at dksX12_sum_3 22 rfl rfl)
theorem dX12_sum_94 : decode cX12_sum 94 = .ok (.lreturn, 1) := dk_173 (dk_at dksX12_sum_3 23 rfl rfl)
theorem dX12_sum_95 : decode cX12_sum 95 = .ok (.aload_n 0, 1) := dk_42 (dk_at dksX12_sum_4 0 rfl rfl)
theorem dX12_sum_96 : decode cX12_sum 96 = .ok (.iload 4, 2) := dk_21 4 (dk_at dksX12_sum_4 1 rfl rfl)
theorem dX12_sum_98 : decode cX12_sum 98 = .ok (.iload_n 2, 1) := dk_28 (dk_at dksX12_sum_4 3 rfl rfl)
theorem dX12_sum_99 : decode cX12_sum 99 = .ok (.iconst 1, 1) := dk_4 (dk_at dksX12_sum_4 4 rfl rfl)
theorem dX12_sum_100 : decode cX12_sum 100 = .ok (.if_icmp .ne 7, 3) := dk_160 0 7 (dk_at dksX12_sum_4 5 rfl rfl)
theorem dX12_sum_103 : decode cX12_sum 103 = .ok (.iconst 1, 1) := dk_4 (dk_at dksX12_sum_4 8 rfl rfl)
theorem dX12_sum_104 : decode cX12_sum 104 = .ok (.goto 4, 3) := dk_167 0 4 (dk_at dksX12_sum_4 9 rfl rfl)
theorem dX12_sum_107 : decode cX12_sum 107 = .ok (.iconst 0, 1) := dk_3 (dk_at dksX12_sum_4 12 rfl rfl)
theorem dX12_sum_108 : decode cX12_sum 108 = .ok (.iload_n 3, 1) := dk_29 (dk_at dksX12_sum_4 13 rfl rfl)
theorem dX12_sum_109 : decode cX12_sum 109 = .ok (.invokevirtual 149, 3) := dk_182 0 149 (dk_at dksX12_sum_4 14 rfl rfl)
theorem dX12_sum_112 : decode cX12_sum 112 = .ok (.lstore 5, 2) := dk_55 5 (dk_at dksX12_sum_4 17 rfl rfl)
theorem dX12_sum_114 : decode cX12_sum 114 = .ok (.aload_n 0, 1) := dk_42 (dk_at dksX12_sum_4 19 rfl rfl)
theorem dX12_sum_115 : decode cX12_sum 115 = .ok (.getfield 116, 3) := dk_180 0 116 (dk_at dksX12_sum_4 20 rfl rfl)
theorem dX12_sum_118 : decode cX12_sum 118 = .ok (.iconst (-1), 1) := dk_2 (dk_at dksX12_sum_4 23 rfl rfl)
theorem dX12_sum_119 : decode cX12_sum 119 = .ok (.if_icmp .ne 8, 3) := dk_160 0 8 (dk_at dksX12_sum_5 0 rfl rfl)
theorem dX12_sum_122 : decode cX12_sum 122 = .ok (.lload 5, 2) := dk_22 5 (dk_at dksX12_sum_5 3 rfl rfl)
theorem dX12_sum_124 : decode cX12_sum 124 = .ok (.goto 4, 3) := dk_167 0 4 (dk_at dksX12_sum_5 5 rfl rfl)
theorem dX12_sum_127 : decode cX12_sum 127 = .ok (.lconst 0, 1) := dk_9 (dk_at dksX12_sum_5 8 rfl rfl)
theorem dX12_sum_128 : decode cX12_sum 128 = .ok (.lreturn, 1) := dk_173 (dk_at dksX12_sum_5 9 rfl rfl)
abbrev cX12_isRule : ByteArray := prog_19_method_37_code
def yX12_isRule : MethodName := ⟨RX12, "isRule", "(I)Z"⟩
def dkwX12_isRule_0 : List UInt8 := [27, 155, 0, 18, 27, 42, 180, 0, 26, 180, 0, 95, 162, 0, 7, 4, 167, 0, 4, 3, 172]
abbrev dktX12_isRule_0 : List UInt8 := dkwX12_isRule_0 ++ []
theorem dksX12_isRule_0 : cX12_isRule.data.toList.drop 0 = dktX12_isRule_0 := by decide +kernel
theorem dX12_isRule_0 : decode cX12_isRule 0 = .ok (.iload_n 1, 1) := dk_27 (dk_at dksX12_isRule_0 0 rfl rfl)
theorem dX12_isRule_1 : decode cX12_isRule 1 = .ok (.ifCond .lt 18, 3) := dk_155 0 18 (dk_at dksX12_isRule_0 1 rfl rfl)
theorem dX12_isRule_4 : decode cX12_isRule 4 = .ok (.iload_n 1, 1) := dk_27 (dk_at dksX12_isRule_0 4 rfl rfl)
theorem dX12_isRule_5 : decode cX12_isRule 5 = .ok (.aload_n 0, 1) := dk_42 (dk_at dksX12_isRule_0 5 rfl rfl)
theorem dX12_isRule_6 : decode cX12_isRule 6 = .ok (.getfield 26, 3) := dk_180 0 26 (dk_at dksX12_isRule_0 6 rfl rfl)
theorem dX12_isRule_9 : decode cX12_isRule 9 = .ok (.getfield 95, 3) := dk_180 0 95 (dk_at dksX12_isRule_0 9 rfl rfl)
theorem dX12_isRule_12 : decode cX12_isRule 12 = .ok (.if_icmp .ge 7, 3) := dk_162 0 7 (dk_at dksX12_isRule_0 12 rfl rfl)
theorem dX12_isRule_15 : decode cX12_isRule 15 = .ok (.iconst 1, 1) := dk_4 (dk_at dksX12_isRule_0 15 rfl rfl)
theorem dX12_isRule_16 : decode cX12_isRule 16 = .ok (.goto 4, 3) := dk_167 0 4 (dk_at dksX12_isRule_0 16 rfl rfl)
theorem dX12_isRule_19 : decode cX12_isRule 19 = .ok (.iconst 0, 1) := dk_3 (dk_at dksX12_isRule_0 19 rfl rfl)
theorem dX12_isRule_20 : decode cX12_isRule 20 = .ok (.ireturn, 1) := dk_172 (dk_at dksX12_isRule_0 20 rfl rfl)
abbrev cX12_table : ByteArray := prog_19_method_39_code
def yX12_table : MethodName := ⟨RX12, "table", "(II)I"⟩
def dkwX12_table_2 : List UInt8 := [42, 180, 0, 26, 180, 0, 132, 42, 180, 0, 26, 180, 0, 157, 27, 46, 28, 96, 46, 172]
abbrev dktX12_table_2 : List UInt8 := dkwX12_table_2 ++ []
def dkwX12_table_1 : List UInt8 := [42, 180, 0, 26, 180, 0, 157, 27, 46, 100, 161, 0, 14, 187, 1, 20, 89, 19, 1, 22, 183, 1, 24, 191]
abbrev dktX12_table_1 : List UInt8 := dkwX12_table_1 ++ dktX12_table_2
def dkwX12_table_0 : List UInt8 := [42, 27, 182, 1, 17, 153, 0, 32, 28, 155, 0, 28, 28, 42, 180, 0, 26, 180, 0, 157, 27, 4, 96, 46]
abbrev dktX12_table_0 : List UInt8 := dkwX12_table_0 ++ dktX12_table_1
theorem dksX12_table_0 : cX12_table.data.toList.drop 0 = dktX12_table_0 := by decide +kernel
theorem dksX12_table_1 : cX12_table.data.toList.drop 24 = dktX12_table_1 := dk_seg dksX12_table_0 24 rfl rfl
theorem dksX12_table_2 : cX12_table.data.toList.drop 48 = dktX12_table_2 := dk_seg dksX12_table_1 24 rfl rfl
theorem dX12_table_0 : decode cX12_table 0 = .ok (.aload_n 0, 1) := dk_42 (dk_at dksX12_table_0 0 rfl rfl)
theorem dX12_table_1 : decode cX12_table 1 = .ok (.iload_n 1, 1) := dk_27 (dk_at dksX12_table_0 1 rfl rfl)
theorem dX12_table_2 : decode cX12_table 2 = .ok (.invokevirtual 273, 3) := dk_182 1 17 (dk_at dksX12_table_0 2 rfl rfl)
theorem dX12_table_5 : decode cX12_table 5 = .ok (.ifCond .eq 32, 3) := dk_153 0 32 (dk_at dksX12_table_0 5 rfl rfl)
theorem dX12_table_8 : decode cX12_table 8 = .ok (.iload_n 2, 1) := dk_28 (dk_at dksX12_table_0 8 rfl rfl)
theorem dX12_table_9 : decode cX12_table 9 = .ok (.ifCond .lt 28, 3) := dk_155 0 28 (dk_at dksX12_table_0 9 rfl rfl)
theorem dX12_table_12 : decode cX12_table 12 = .ok (.iload_n 2, 1) := dk_28 (dk_at dksX12_table_0 12 rfl rfl)
theorem dX12_table_13 : decode cX12_table 13 = .ok (.aload_n 0, 1) := dk_42 (dk_at dksX12_table_0 13 rfl rfl)
theorem dX12_table_14 : decode cX12_table 14 = .ok (.getfield 26, 3) := dk_180 0 26 (dk_at dksX12_table_0 14 rfl rfl)
theorem dX12_table_17 : decode cX12_table 17 = .ok (.getfield 157, 3) := dk_180 0 157 (dk_at dksX12_table_0 17 rfl rfl)
theorem dX12_table_20 : decode cX12_table 20 = .ok (.iload_n 1, 1) := dk_27 (dk_at dksX12_table_0 20 rfl rfl)
theorem dX12_table_21 : decode cX12_table 21 = .ok (.iconst 1, 1) := dk_4 (dk_at dksX12_table_0 21 rfl rfl)
theorem dX12_table_22 : decode cX12_table 22 = .ok (.iadd, 1) := dk_96 (dk_at dksX12_table_0 22 rfl rfl)
theorem dX12_table_23 : decode cX12_table 23 = .ok (.iaload, 1) := dk_46 (dk_at dksX12_table_0 23 rfl rfl)
theorem dX12_table_24 : decode cX12_table 24 = .ok (.aload_n 0, 1) := dk_42 (dk_at dksX12_table_1 0 rfl rfl)
theorem dX12_table_25 : decode cX12_table 25 = .ok (.getfield 26, 3) := dk_180 0 26 (dk_at dksX12_table_1 1 rfl rfl)
theorem dX12_table_28 : decode cX12_table 28 = .ok (.getfield 157, 3) := dk_180 0 157 (dk_at dksX12_table_1 4 rfl rfl)
theorem dX12_table_31 : decode cX12_table 31 = .ok (.iload_n 1, 1) := dk_27 (dk_at dksX12_table_1 7 rfl rfl)
theorem dX12_table_32 : decode cX12_table 32 = .ok (.iaload, 1) := dk_46 (dk_at dksX12_table_1 8 rfl rfl)
theorem dX12_table_33 : decode cX12_table 33 = .ok (.isub, 1) := dk_100 (dk_at dksX12_table_1 9 rfl rfl)
theorem dX12_table_34 : decode cX12_table 34 = .ok (.if_icmp .lt 14, 3) := dk_161 0 14 (dk_at dksX12_table_1 10 rfl rfl)
theorem dX12_table_37 : decode cX12_table 37 = .ok (.new 276, 3) := dk_187 1 20 (dk_at dksX12_table_1 13 rfl rfl)
theorem dX12_table_40 : decode cX12_table 40 = .ok (.dup, 1) := dk_89 (dk_at dksX12_table_1 16 rfl rfl)
theorem dX12_table_41 : decode cX12_table 41 = .ok (.ldc_w 278, 3) := dk_19 1 22 (dk_at dksX12_table_1 17 rfl rfl)
theorem dX12_table_44 : decode cX12_table 44 = .ok (.invokespecial 280, 3) := dk_183 1 24 (dk_at dksX12_table_1 20 rfl rfl)
theorem dX12_table_47 : decode cX12_table 47 = .ok (.athrow, 1) := dk_191 (dk_at dksX12_table_1 23 rfl rfl)
theorem dX12_table_48 : decode cX12_table 48 = .ok (.aload_n 0, 1) := dk_42 (dk_at dksX12_table_2 0 rfl rfl)
theorem dX12_table_49 : decode cX12_table 49 = .ok (.getfield 26, 3) := dk_180 0 26 (dk_at dksX12_table_2 1 rfl rfl)
theorem dX12_table_52 : decode cX12_table 52 = .ok (.getfield 132, 3) := dk_180 0 132 (dk_at dksX12_table_2 4 rfl rfl)
theorem dX12_table_55 : decode cX12_table 55 = .ok (.aload_n 0, 1) := dk_42 (dk_at dksX12_table_2 7 rfl rfl)
theorem dX12_table_56 : decode cX12_table 56 = .ok (.getfield 26, 3) := dk_180 0 26 (dk_at dksX12_table_2 8 rfl rfl)
theorem dX12_table_59 : decode cX12_table 59 = .ok (.getfield 157, 3) := dk_180 0 157 (dk_at dksX12_table_2 11 rfl rfl)
theorem dX12_table_62 : decode cX12_table 62 = .ok (.iload_n 1, 1) := dk_27 (dk_at dksX12_table_2 14 rfl rfl)
theorem dX12_table_63 : decode cX12_table 63 = .ok (.iaload, 1) := dk_46 (dk_at dksX12_table_2 15 rfl rfl)
theorem dX12_table_64 : decode cX12_table 64 = .ok (.iload_n 2, 1) := dk_28 (dk_at dksX12_table_2 16 rfl rfl)
theorem dX12_table_65 : decode cX12_table 65 = .ok (.iadd, 1) := dk_96 (dk_at dksX12_table_2 17 rfl rfl)
theorem dX12_table_66 : decode cX12_table 66 = .ok (.iaload, 1) := dk_46 (dk_at dksX12_table_2 18 rfl rfl)
theorem dX12_table_67 : decode cX12_table 67 = .ok (.ireturn, 1) := dk_172 (dk_at dksX12_table_2 19 rfl rfl)
abbrev cX12_write : ByteArray := prog_19_method_40_code
def yX12_write : MethodName := ⟨RX12, "write", "(I)I"⟩
def dkwX12_write_5 : List UInt8 := [172]
abbrev dktX12_write_5 : List UInt8 := dkwX12_write_5 ++ []
def dkwX12_write_4 : List UInt8 := [162, 0, 8, 16, 32, 167, 0, 4, 2, 172, 28, 21, 4, 4, 96, 96, 61, 132, 3, 1, 167, 255, 148, 2]
abbrev dktX12_write_4 : List UInt8 := dkwX12_write_4 ++ dktX12_write_5
def dkwX12_write_3 : List UInt8 := [17, 0, 255, 126, 172, 27, 28, 21, 4, 96, 160, 0, 23, 29, 42, 180, 0, 16, 180, 1, 27, 4, 100]
abbrev dktX12_write_3 : List UInt8 := dkwX12_write_3 ++ dktX12_write_4
def dkwX12_write_2 : List UInt8 := [162, 0, 29, 42, 180, 0, 16, 180, 0, 71, 42, 180, 0, 16, 180, 1, 33, 29, 46, 27, 96, 28, 100, 51]
abbrev dktX12_write_2 : List UInt8 := dkwX12_write_2 ++ dktX12_write_3
def dkwX12_write_1 : List UInt8 := [180, 1, 30, 29, 46, 42, 180, 0, 16, 180, 1, 33, 29, 46, 100, 54, 4, 27, 28, 21, 4, 96]
abbrev dktX12_write_1 : List UInt8 := dkwX12_write_1 ++ dktX12_write_2
def dkwX12_write_0 : List UInt8 := [3, 61, 3, 62, 29, 42, 180, 0, 16, 180, 1, 27, 162, 0, 103, 27, 155, 0, 99, 42, 180, 0, 16]
abbrev dktX12_write_0 : List UInt8 := dkwX12_write_0 ++ dktX12_write_1
theorem dksX12_write_0 : cX12_write.data.toList.drop 0 = dktX12_write_0 := by decide +kernel
theorem dksX12_write_1 : cX12_write.data.toList.drop 23 = dktX12_write_1 := dk_seg dksX12_write_0 23 rfl rfl
theorem dksX12_write_2 : cX12_write.data.toList.drop 45 = dktX12_write_2 := dk_seg dksX12_write_1 22 rfl rfl
theorem dksX12_write_3 : cX12_write.data.toList.drop 69 = dktX12_write_3 := dk_seg dksX12_write_2 24 rfl rfl
theorem dksX12_write_4 : cX12_write.data.toList.drop 92 = dktX12_write_4 := dk_seg dksX12_write_3 23 rfl rfl
theorem dksX12_write_5 : cX12_write.data.toList.drop 116 = dktX12_write_5 := dk_seg dksX12_write_4 24 rfl rfl
theorem dX12_write_0 : decode cX12_write 0 = .ok (.iconst 0, 1) := dk_3 (dk_at dksX12_write_0 0 rfl rfl)
theorem dX12_write_1 : decode cX12_write 1 = .ok (.istore_n 2, 1) := dk_61 (dk_at dksX12_write_0 1 rfl rfl)
theorem dX12_write_2 : decode cX12_write 2 = .ok (.iconst 0, 1) := dk_3 (dk_at dksX12_write_0 2 rfl rfl)
theorem dX12_write_3 : decode cX12_write 3 = .ok (.istore_n 3, 1) := dk_62 (dk_at dksX12_write_0 3 rfl rfl)
theorem dX12_write_4 : decode cX12_write 4 = .ok (.iload_n 3, 1) := dk_29 (dk_at dksX12_write_0 4 rfl rfl)
theorem dX12_write_5 : decode cX12_write 5 = .ok (.aload_n 0, 1) := dk_42 (dk_at dksX12_write_0 5 rfl rfl)
theorem dX12_write_6 : decode cX12_write 6 = .ok (.getfield 16, 3) := dk_180 0 16 (dk_at dksX12_write_0 6 rfl rfl)
theorem dX12_write_9 : decode cX12_write 9 = .ok (.getfield 283, 3) := dk_180 1 27 (dk_at dksX12_write_0 9 rfl rfl)
theorem dX12_write_12 : decode cX12_write 12 = .ok (.if_icmp .ge 103, 3) := dk_162 0 103 (dk_at dksX12_write_0 12 rfl rfl)
theorem dX12_write_15 : decode cX12_write 15 = .ok (.iload_n 1, 1) := dk_27 (dk_at dksX12_write_0 15 rfl rfl)
theorem dX12_write_16 : decode cX12_write 16 = .ok (.ifCond .lt 99, 3) := dk_155 0 99 (dk_at dksX12_write_0 16 rfl rfl)
theorem dX12_write_19 : decode cX12_write 19 = .ok (.aload_n 0, 1) := dk_42 (dk_at dksX12_write_0 19 rfl rfl)
theorem dX12_write_20 : decode cX12_write 20 = .ok (.getfield 16, 3) := dk_180 0 16 (dk_at dksX12_write_0 20 rfl rfl)
theorem dX12_write_23 : decode cX12_write 23 = .ok (.getfield 286, 3) := dk_180 1 30 (dk_at dksX12_write_1 0 rfl rfl)
theorem dX12_write_26 : decode cX12_write 26 = .ok (.iload_n 3, 1) := dk_29 (dk_at dksX12_write_1 3 rfl rfl)
theorem dX12_write_27 : decode cX12_write 27 = .ok (.iaload, 1) := dk_46 (dk_at dksX12_write_1 4 rfl rfl)
theorem dX12_write_28 : decode cX12_write 28 = .ok (.aload_n 0, 1) := dk_42 (dk_at dksX12_write_1 5 rfl rfl)
theorem dX12_write_29 : decode cX12_write 29 = .ok (.getfield 16, 3) := dk_180 0 16 (dk_at dksX12_write_1 6 rfl rfl)
theorem dX12_write_32 : decode cX12_write 32 = .ok (.getfield 289, 3) := dk_180 1 33 (dk_at dksX12_write_1 9 rfl rfl)
theorem dX12_write_35 : decode cX12_write 35 = .ok (.iload_n 3, 1) := dk_29 (dk_at dksX12_write_1 12 rfl rfl)
theorem dX12_write_36 : decode cX12_write 36 = .ok (.iaload, 1) := dk_46 (dk_at dksX12_write_1 13 rfl rfl)
theorem dX12_write_37 : decode cX12_write 37 = .ok (.isub, 1) := dk_100 (dk_at dksX12_write_1 14 rfl rfl)
theorem dX12_write_38 : decode cX12_write 38 = .ok (.istore 4, 2) := dk_54 4 (dk_at dksX12_write_1 15 rfl rfl)
theorem dX12_write_40 : decode cX12_write 40 = .ok (.iload_n 1, 1) := dk_27 (dk_at dksX12_write_1 17 rfl rfl)
theorem dX12_write_41 : decode cX12_write 41 = .ok (.iload_n 2, 1) := dk_28 (dk_at dksX12_write_1 18 rfl rfl)
theorem dX12_write_42 : decode cX12_write 42 = .ok (.iload 4, 2) := dk_21 4 (dk_at dksX12_write_1 19 rfl rfl)
theorem dX12_write_44 : decode cX12_write 44 = .ok (.iadd, 1) := dk_96 (dk_at dksX12_write_1 21 rfl rfl)
theorem dX12_write_45 : decode cX12_write 45 = .ok (.if_icmp .ge 29, 3) := dk_162 0 29 (dk_at dksX12_write_2 0 rfl rfl)
theorem dX12_write_48 : decode cX12_write 48 = .ok (.aload_n 0, 1) := dk_42 (dk_at dksX12_write_2 3 rfl rfl)
theorem dX12_write_49 : decode cX12_write 49 = .ok (.getfield 16, 3) := dk_180 0 16 (dk_at dksX12_write_2 4 rfl rfl)
theorem dX12_write_52 : decode cX12_write 52 = .ok (.getfield 71, 3) := dk_180 0 71 (dk_at dksX12_write_2 7 rfl rfl)
theorem dX12_write_55 : decode cX12_write 55 = .ok (.aload_n 0, 1) := dk_42 (dk_at dksX12_write_2 10 rfl rfl)
theorem dX12_write_56 : decode cX12_write 56 = .ok (.getfield 16, 3) := dk_180 0 16 (dk_at dksX12_write_2 11 rfl rfl)
theorem dX12_write_59 : decode cX12_write 59 = .ok (.getfield 289, 3) := dk_180 1 33 (dk_at dksX12_write_2 14 rfl rfl)
theorem dX12_write_62 : decode cX12_write 62 = .ok (.iload_n 3, 1) := dk_29 (dk_at dksX12_write_2 17 rfl rfl)
theorem dX12_write_63 : decode cX12_write 63 = .ok (.iaload, 1) := dk_46 (dk_at dksX12_write_2 18 rfl rfl)
theorem dX12_write_64 : decode cX12_write 64 = .ok (.iload_n 1, 1) := dk_27 (dk_at dksX12_write_2 19 rfl rfl)
theorem dX12_write_65 : decode cX12_write 65 = .ok (.iadd, 1) := dk_96 (dk_at dksX12_write_2 20 rfl rfl)
theorem dX12_write_66 : decode cX12_write 66 = .ok (.iload_n 2, 1) := dk_28 (dk_at dksX12_write_2 21 rfl rfl)
theorem dX12_write_67 : decode cX12_write 67 = .ok (.isub, 1) := dk_100 (dk_at dksX12_write_2 22 rfl rfl)
theorem dX12_write_68 : decode cX12_write 68 = .ok (.baload, 1) := dk_51 (dk_at dksX12_write_2 23 rfl rfl)
theorem dX12_write_69 : decode cX12_write 69 = .ok (.sipush 255, 3) := dk_17 0 255 (dk_at dksX12_write_3 0 rfl rfl)
theorem dX12_write_72 : decode cX12_write 72 = .ok (.iand, 1) := dk_126 (dk_at dksX12_write_3 3 rfl rfl)
theorem dX12_write_73 : decode cX12_write 73 = .ok (.ireturn, 1) := dk_172 (dk_at dksX12_write_3 4 rfl rfl)
theorem dX12_write_74 : decode cX12_write 74 = .ok (.iload_n 1, 1) := dk_27 (dk_at dksX12_write_3 5 rfl rfl)
theorem dX12_write_75 : decode cX12_write 75 = .ok (.iload_n 2, 1) := dk_28 (dk_at dksX12_write_3 6 rfl rfl)
theorem dX12_write_76 : decode cX12_write 76 = .ok (.iload 4, 2) := dk_21 4 (dk_at dksX12_write_3 7 rfl rfl)
theorem dX12_write_78 : decode cX12_write 78 = .ok (.iadd, 1) := dk_96 (dk_at dksX12_write_3 9 rfl rfl)
theorem dX12_write_79 : decode cX12_write 79 = .ok (.if_icmp .ne 23, 3) := dk_160 0 23 (dk_at dksX12_write_3 10 rfl rfl)
theorem dX12_write_82 : decode cX12_write 82 = .ok (.iload_n 3, 1) := dk_29 (dk_at dksX12_write_3 13 rfl rfl)
theorem dX12_write_83 : decode cX12_write 83 = .ok (.aload_n 0, 1) := dk_42 (dk_at dksX12_write_3 14 rfl rfl)
theorem dX12_write_84 : decode cX12_write 84 = .ok (.getfield 16, 3) := dk_180 0 16 (dk_at dksX12_write_3 15 rfl rfl)
theorem dX12_write_87 : decode cX12_write 87 = .ok (.getfield 283, 3) := dk_180 1 27 (dk_at dksX12_write_3 18 rfl rfl)
theorem dX12_write_90 : decode cX12_write 90 = .ok (.iconst 1, 1) := dk_4 (dk_at dksX12_write_3 21 rfl rfl)
theorem dX12_write_91 : decode cX12_write 91 = .ok (.isub, 1) := dk_100 (dk_at dksX12_write_3 22 rfl rfl)
theorem dX12_write_92 : decode cX12_write 92 = .ok (.if_icmp .ge 8, 3) := dk_162 0 8 (dk_at dksX12_write_4 0 rfl rfl)
theorem dX12_write_95 : decode cX12_write 95 = .ok (.bipush 32, 2) := dk_16 32 (dk_at dksX12_write_4 3 rfl rfl)
theorem dX12_write_97 : decode cX12_write 97 = .ok (.goto 4, 3) := dk_167 0 4 (dk_at dksX12_write_4 5 rfl rfl)
theorem dX12_write_100 : decode cX12_write 100 = .ok (.iconst (-1), 1) := dk_2 (dk_at dksX12_write_4 8 rfl rfl)
theorem dX12_write_101 : decode cX12_write 101 = .ok (.ireturn, 1) := dk_172 (dk_at dksX12_write_4 9 rfl rfl)
theorem dX12_write_102 : decode cX12_write 102 = .ok (.iload_n 2, 1) := dk_28 (dk_at dksX12_write_4 10 rfl rfl)
theorem dX12_write_103 : decode cX12_write 103 = .ok (.iload 4, 2) := dk_21 4 (dk_at dksX12_write_4 11 rfl rfl)
theorem dX12_write_105 : decode cX12_write 105 = .ok (.iconst 1, 1) := dk_4 (dk_at dksX12_write_4 13 rfl rfl)
theorem dX12_write_106 : decode cX12_write 106 = .ok (.iadd, 1) := dk_96 (dk_at dksX12_write_4 14 rfl rfl)
theorem dX12_write_107 : decode cX12_write 107 = .ok (.iadd, 1) := dk_96 (dk_at dksX12_write_4 15 rfl rfl)
theorem dX12_write_108 : decode cX12_write 108 = .ok (.istore_n 2, 1) := dk_61 (dk_at dksX12_write_4 16 rfl rfl)
theorem dX12_write_109 : decode cX12_write 109 = .ok (.iinc 3 1, 3) := dk_132 3 1 (dk_at dksX12_write_4 17 rfl rfl)
theorem dX12_write_112 : decode cX12_write 112 = .ok (.goto (-108), 3) := dk_167 255 148 (dk_at dksX12_write_4 20 rfl rfl)
theorem dX12_write_115 : decode cX12_write 115 = .ok (.iconst (-1), 1) := dk_2 (dk_at dksX12_write_4 23 rfl rfl)
theorem dX12_write_116 : decode cX12_write 116 = .ok (.ireturn, 1) := dk_172 (dk_at dksX12_write_5 0 rfl rfl)
theorem q410 : (Jvm.Cond.initialized "WasteHouse$HazardRules") ∈ lw_all := lw_g (lw_at lw_m1 18 rfl) rfl
theorem q916 : (Jvm.Cond.instantiable "WasteHouse$HazardRules" (19 : Nat)) ∈ lw_all := lw_g (lw_at lw_m3 44 rfl) rfl
theorem q918 : (Jvm.Cond.instanceMethod ({ cls := "WasteHouse$HazardRules", name := "<init>", desc := "()V" } : Jvm.MethodName)) ∈ lw_all := lw_g (lw_at lw_m3 46 rfl) rfl
theorem q919 : (Jvm.Cond.code ({ cls := "WasteHouse$HazardRules", name := "<init>", desc := "()V" } : Jvm.MethodName) prog_19_method_1_code (1 : Nat) (Option.none : Option Jvm.ClassFile.FieldType)) ∈ lw_all := lw_g (lw_at lw_m3 47 rfl) rfl
theorem q920 : (Jvm.Cond.methodLink "WasteHouse$HazardRules" (1 : Nat) ({ cls := "java/lang/Object", name := "<init>", desc := "()V" } : Jvm.MethodName)) ∈ lw_all := lw_g (lw_at lw_m3 48 rfl) rfl
theorem q921 : (Jvm.Cond.classLink "WasteHouse$HazardRules" (7 : Nat) "WasteHouse$HazardRules$Words") ∈ lw_all := lw_g (lw_at lw_m3 49 rfl) rfl
theorem q923 : (Jvm.Cond.methodLinkNest "WasteHouse$HazardRules" (9 : Nat) ({ cls := "WasteHouse$HazardRules$Words", name := "<init>", desc := "()V" } : Jvm.MethodName) "WasteHouse") ∈ lw_tbl := lw_at lw_m3 51 rfl
theorem q942 : (Jvm.Cond.fieldLink "WasteHouse$HazardRules" (71 : Nat) "WasteHouse$HazardRules$Words" "bytes" "[B") ∈ lw_all := lw_g (lw_at lw_m3 70 rfl) rfl
theorem q943 : (Jvm.Cond.fieldLink "WasteHouse$HazardRules" (68 : Nat) "WasteHouse$HazardRules$Words" "size" "I") ∈ lw_all := lw_g (lw_at lw_m3 71 rfl) rfl
theorem q946 : (Jvm.Cond.fieldLink "WasteHouse$HazardRules" (289 : Nat) "WasteHouse$HazardRules$Words" "froms" "[I") ∈ lw_all := lw_g (lw_at lw_m3 74 rfl) rfl
theorem q948 : (Jvm.Cond.fieldLink "WasteHouse$HazardRules" (286 : Nat) "WasteHouse$HazardRules$Words" "tos" "[I") ∈ lw_all := lw_g (lw_at lw_m3 76 rfl) rfl
theorem q950 : (Jvm.Cond.fieldLink "WasteHouse$HazardRules" (208 : Nat) "WasteHouse$HazardRules$Words" "words" "[LWasteHouse$HazardRules$Word;") ∈ lw_all := lw_g (lw_at lw_m3 78 rfl) rfl
theorem q953 : (Jvm.Cond.fieldLink "WasteHouse$HazardRules" (202 : Nat) "WasteHouse$HazardRules$Words" "numbers" "[I") ∈ lw_all := lw_g (lw_at lw_m3 81 rfl) rfl
theorem q956 : (Jvm.Cond.fieldLink "WasteHouse$HazardRules" (283 : Nat) "WasteHouse$HazardRules$Words" "count" "I") ∈ lw_all := lw_g (lw_at lw_m3 84 rfl) rfl
theorem q975 : (Jvm.Cond.classLink "WasteHouse$HazardRules" (19 : Nat) "WasteHouse$HazardRules$Code") ∈ lw_all := lw_g (lw_at lw_m3 103 rfl) rfl
theorem q977 : (Jvm.Cond.methodLinkNest "WasteHouse$HazardRules" (21 : Nat) ({ cls := "WasteHouse$HazardRules$Code", name := "<init>", desc := "()V" } : Jvm.MethodName) "WasteHouse") ∈ lw_tbl := lw_at lw_m3 105 rfl
theorem q982 : (Jvm.Cond.fieldLink "WasteHouse$HazardRules" (101 : Nat) "WasteHouse$HazardRules$Code" "editions" "I") ∈ lw_all := lw_g (lw_at lw_m3 110 rfl) rfl
theorem q985 : (Jvm.Cond.fieldLink "WasteHouse$HazardRules" (104 : Nat) "WasteHouse$HazardRules$Code" "days" "[I") ∈ lw_all := lw_g (lw_at lw_m3 113 rfl) rfl
theorem q989 : (Jvm.Cond.fieldLink "WasteHouse$HazardRules" (167 : Nat) "WasteHouse$HazardRules$Code" "firsts" "[I") ∈ lw_all := lw_g (lw_at lw_m3 117 rfl) rfl
theorem q991 : (Jvm.Cond.fieldLink "WasteHouse$HazardRules" (95 : Nat) "WasteHouse$HazardRules$Code" "rules" "I") ∈ lw_all := lw_g (lw_at lw_m3 119 rfl) rfl
theorem q995 : (Jvm.Cond.fieldLink "WasteHouse$HazardRules" (185 : Nat) "WasteHouse$HazardRules$Code" "classes" "[I") ∈ lw_all := lw_g (lw_at lw_m3 123 rfl) rfl
theorem q998 : (Jvm.Cond.fieldLink "WasteHouse$HazardRules" (157 : Nat) "WasteHouse$HazardRules$Code" "itemFroms" "[I") ∈ lw_all := lw_g (lw_at lw_m3 126 rfl) rfl
theorem q1001 : (Jvm.Cond.fieldLink "WasteHouse$HazardRules" (246 : Nat) "WasteHouse$HazardRules$Code" "wordFroms" "[I") ∈ lw_all := lw_g (lw_at lw_m3 129 rfl) rfl
theorem q1006 : (Jvm.Cond.fieldLink "WasteHouse$HazardRules" (132 : Nat) "WasteHouse$HazardRules$Code" "kinds" "[I") ∈ lw_all := lw_g (lw_at lw_m3 134 rfl) rfl
theorem q1009 : (Jvm.Cond.fieldLink "WasteHouse$HazardRules" (119 : Nat) "WasteHouse$HazardRules$Code" "ones" "[I") ∈ lw_all := lw_g (lw_at lw_m3 137 rfl) rfl
theorem q1012 : (Jvm.Cond.fieldLink "WasteHouse$HazardRules" (135 : Nat) "WasteHouse$HazardRules$Code" "twos" "[I") ∈ lw_all := lw_g (lw_at lw_m3 140 rfl) rfl
theorem q1015 : (Jvm.Cond.fieldLink "WasteHouse$HazardRules" (138 : Nat) "WasteHouse$HazardRules$Code" "threes" "[I") ∈ lw_all := lw_g (lw_at lw_m3 143 rfl) rfl
theorem q1020 : (Jvm.Cond.fieldLink "WasteHouse$HazardRules" (109 : Nat) "WasteHouse$HazardRules$Code" "parts" "[I") ∈ lw_all := lw_g (lw_at lw_m3 148 rfl) rfl
theorem q1023 : (Jvm.Cond.fieldLink "WasteHouse$HazardRules" (122 : Nat) "WasteHouse$HazardRules$Code" "termEnds" "[I") ∈ lw_all := lw_g (lw_at lw_m3 151 rfl) rfl
theorem q1055 : (Jvm.Cond.classLink "WasteHouse$HazardRules" (29 : Nat) "WasteHouse$HazardRules$Reader") ∈ lw_all := lw_g (lw_at lw_m3 183 rfl) rfl
theorem q1057 : (Jvm.Cond.methodLink "WasteHouse$HazardRules" (31 : Nat) ({ cls := "WasteHouse$HazardRules$Reader", name := "<init>", desc := "(LWasteHouse$HazardRules$Words;LWasteHouse$HazardRules$Code;)V" } : Jvm.MethodName)) ∈ lw_all := lw_g (lw_at lw_m3 185 rfl) rfl
theorem q1064 : (Jvm.Cond.fieldLink "WasteHouse$HazardRules" (98 : Nat) "WasteHouse$HazardRules$Reader" "at" "I") ∈ lw_all := lw_g (lw_at lw_m3 192 rfl) rfl
theorem q1075 : (Jvm.Cond.methodLink "WasteHouse$HazardRules" (65 : Nat) ({ cls := "WasteHouse$HazardRules", name := "clearParts", desc := "()V" } : Jvm.MethodName)) ∈ lw_all := lw_g (lw_at lw_m3 203 rfl) rfl
theorem q1076 : (Jvm.Cond.instanceMethod ({ cls := "WasteHouse$HazardRules", name := "clearParts", desc := "()V" } : Jvm.MethodName)) ∈ lw_all := lw_g (lw_at lw_m3 204 rfl) rfl
theorem q1077 : (Jvm.Cond.selects "WasteHouse$HazardRules" ({ cls := "WasteHouse$HazardRules", name := "clearParts", desc := "()V" } : Jvm.MethodName) ({ cls := "WasteHouse$HazardRules", name := "clearParts", desc := "()V" } : Jvm.MethodName)) ∈ lw_all := lw_g (lw_at lw_m3 205 rfl) rfl
theorem q1078 : (Jvm.Cond.code ({ cls := "WasteHouse$HazardRules", name := "clearParts", desc := "()V" } : Jvm.MethodName) prog_19_method_7_code (2 : Nat) (Option.none : Option Jvm.ClassFile.FieldType)) ∈ lw_all := lw_g (lw_at lw_m3 206 rfl) rfl
theorem q1079 : (Jvm.Cond.fieldLink "WasteHouse$HazardRules" (10 : Nat) "WasteHouse$HazardRules" "told" "LWasteHouse$HazardRules$Words;") ∈ lw_all := lw_g (lw_at lw_m3 207 rfl) rfl
theorem q1080 : (Jvm.Cond.fieldLink "WasteHouse$HazardRules" (16 : Nat) "WasteHouse$HazardRules" "kept" "LWasteHouse$HazardRules$Words;") ∈ lw_all := lw_g (lw_at lw_m3 208 rfl) rfl
theorem q1081 : (Jvm.Cond.fieldLink "WasteHouse$HazardRules" (22 : Nat) "WasteHouse$HazardRules" "fresh" "LWasteHouse$HazardRules$Code;") ∈ lw_all := lw_g (lw_at lw_m3 209 rfl) rfl
theorem q1082 : (Jvm.Cond.fieldLink "WasteHouse$HazardRules" (26 : Nat) "WasteHouse$HazardRules" "code" "LWasteHouse$HazardRules$Code;") ∈ lw_all := lw_g (lw_at lw_m3 210 rfl) rfl
theorem q1083 : (Jvm.Cond.fieldLink "WasteHouse$HazardRules" (34 : Nat) "WasteHouse$HazardRules" "reader" "LWasteHouse$HazardRules$Reader;") ∈ lw_all := lw_g (lw_at lw_m3 211 rfl) rfl
theorem q1084 : (Jvm.Cond.fieldLink "WasteHouse$HazardRules" (38 : Nat) "WasteHouse$HazardRules" "lows" "[I") ∈ lw_all := lw_g (lw_at lw_m3 212 rfl) rfl
theorem q1085 : (Jvm.Cond.fieldLink "WasteHouse$HazardRules" (42 : Nat) "WasteHouse$HazardRules" "highs" "[I") ∈ lw_all := lw_g (lw_at lw_m3 213 rfl) rfl
theorem q1086 : (Jvm.Cond.fieldLink "WasteHouse$HazardRules" (45 : Nat) "WasteHouse$HazardRules" "results" "[I") ∈ lw_all := lw_g (lw_at lw_m3 214 rfl) rfl
theorem q1087 : (Jvm.Cond.fieldLink "WasteHouse$HazardRules" (48 : Nat) "WasteHouse$HazardRules" "isStrict" "Z") ∈ lw_all := lw_g (lw_at lw_m3 215 rfl) rfl
theorem q1088 : (Jvm.Cond.fieldLink "WasteHouse$HazardRules" (52 : Nat) "WasteHouse$HazardRules" "states" "[I") ∈ lw_all := lw_g (lw_at lw_m3 216 rfl) rfl
theorem q1089 : (Jvm.Cond.fieldLink "WasteHouse$HazardRules" (55 : Nat) "WasteHouse$HazardRules" "lacks" "[I") ∈ lw_all := lw_g (lw_at lw_m3 217 rfl) rfl
theorem q1090 : (Jvm.Cond.fieldLink "WasteHouse$HazardRules" (58 : Nat) "WasteHouse$HazardRules" "acted" "I") ∈ lw_all := lw_g (lw_at lw_m3 218 rfl) rfl
theorem q1091 : (Jvm.Cond.fieldLink "WasteHouse$HazardRules" (164 : Nat) "WasteHouse$HazardRules" "won" "I") ∈ lw_all := lw_g (lw_at lw_m3 219 rfl) rfl
theorem q1092 : (Jvm.Cond.fieldLink "WasteHouse$HazardRules" (89 : Nat) "WasteHouse$HazardRules" "holding" "I") ∈ lw_all := lw_g (lw_at lw_m3 220 rfl) rfl
theorem q1093 : (Jvm.Cond.fieldLink "WasteHouse$HazardRules" (129 : Nat) "WasteHouse$HazardRules" "doubtful" "I") ∈ lw_all := lw_g (lw_at lw_m3 221 rfl) rfl
theorem q1094 : (Jvm.Cond.fieldLink "WasteHouse$HazardRules" (62 : Nat) "WasteHouse$HazardRules" "order" "[I") ∈ lw_all := lw_g (lw_at lw_m3 222 rfl) rfl
theorem q1095 : (Jvm.Cond.fieldLink "WasteHouse$HazardRules" (92 : Nat) "WasteHouse$HazardRules" "held" "I") ∈ lw_all := lw_g (lw_at lw_m3 223 rfl) rfl
theorem q1096 : (Jvm.Cond.fieldLink "WasteHouse$HazardRules" (116 : Nat) "WasteHouse$HazardRules" "lack" "I") ∈ lw_all := lw_g (lw_at lw_m3 224 rfl) rfl
theorem q1097 : (Jvm.Cond.fieldLink "WasteHouse$HazardRules" (205 : Nat) "WasteHouse$HazardRules" "step" "I") ∈ lw_all := lw_g (lw_at lw_m3 225 rfl) rfl
theorem q1098 : (Jvm.Cond.laysFinal "WasteHouse$HazardRules" "WasteHouse$HazardRules" "told" "LWasteHouse$HazardRules$Words;") ∈ lw_all := lw_g (lw_at lw_m3 226 rfl) rfl
theorem q1099 : (Jvm.Cond.soleField "WasteHouse$HazardRules" "told") ∈ lw_all := lw_g (lw_at lw_m3 227 rfl) rfl
theorem q1100 : (Jvm.Cond.laysFinal "WasteHouse$HazardRules" "WasteHouse$HazardRules" "kept" "LWasteHouse$HazardRules$Words;") ∈ lw_all := lw_g (lw_at lw_m3 228 rfl) rfl
theorem q1101 : (Jvm.Cond.soleField "WasteHouse$HazardRules" "kept") ∈ lw_all := lw_g (lw_at lw_m3 229 rfl) rfl
theorem q1102 : (Jvm.Cond.laysFinal "WasteHouse$HazardRules" "WasteHouse$HazardRules" "fresh" "LWasteHouse$HazardRules$Code;") ∈ lw_all := lw_g (lw_at lw_m3 230 rfl) rfl
theorem q1103 : (Jvm.Cond.soleField "WasteHouse$HazardRules" "fresh") ∈ lw_all := lw_g (lw_at lw_m3 231 rfl) rfl
theorem q1104 : (Jvm.Cond.laysFinal "WasteHouse$HazardRules" "WasteHouse$HazardRules" "code" "LWasteHouse$HazardRules$Code;") ∈ lw_all := lw_g (lw_at lw_m3 232 rfl) rfl
theorem q1105 : (Jvm.Cond.soleField "WasteHouse$HazardRules" "code") ∈ lw_all := lw_g (lw_at lw_m3 233 rfl) rfl
theorem q1106 : (Jvm.Cond.laysFinal "WasteHouse$HazardRules" "WasteHouse$HazardRules" "reader" "LWasteHouse$HazardRules$Reader;") ∈ lw_all := lw_g (lw_at lw_m3 234 rfl) rfl
theorem q1107 : (Jvm.Cond.soleField "WasteHouse$HazardRules" "reader") ∈ lw_all := lw_g (lw_at lw_m3 235 rfl) rfl
theorem q1108 : (Jvm.Cond.laysFinal "WasteHouse$HazardRules" "WasteHouse$HazardRules" "lows" "[I") ∈ lw_all := lw_g (lw_at lw_m3 236 rfl) rfl
theorem q1109 : (Jvm.Cond.soleField "WasteHouse$HazardRules" "lows") ∈ lw_all := lw_g (lw_at lw_m3 237 rfl) rfl
theorem q1110 : (Jvm.Cond.laysFinal "WasteHouse$HazardRules" "WasteHouse$HazardRules" "highs" "[I") ∈ lw_all := lw_g (lw_at lw_m3 238 rfl) rfl
theorem q1111 : (Jvm.Cond.soleField "WasteHouse$HazardRules" "highs") ∈ lw_all := lw_g (lw_at lw_m3 239 rfl) rfl
theorem q1112 : (Jvm.Cond.laysFinal "WasteHouse$HazardRules" "WasteHouse$HazardRules" "results" "[I") ∈ lw_all := lw_g (lw_at lw_m4 0 rfl) rfl
theorem q1113 : (Jvm.Cond.soleField "WasteHouse$HazardRules" "results") ∈ lw_all := lw_g (lw_at lw_m4 1 rfl) rfl
theorem q1114 : (Jvm.Cond.lays "WasteHouse$HazardRules" "WasteHouse$HazardRules" "isStrict" "Z") ∈ lw_all := lw_g (lw_at lw_m4 2 rfl) rfl
theorem q1115 : (Jvm.Cond.soleField "WasteHouse$HazardRules" "isStrict") ∈ lw_all := lw_g (lw_at lw_m4 3 rfl) rfl
theorem q1116 : (Jvm.Cond.laysFinal "WasteHouse$HazardRules" "WasteHouse$HazardRules" "states" "[I") ∈ lw_all := lw_g (lw_at lw_m4 4 rfl) rfl
theorem q1117 : (Jvm.Cond.soleField "WasteHouse$HazardRules" "states") ∈ lw_all := lw_g (lw_at lw_m4 5 rfl) rfl
theorem q1118 : (Jvm.Cond.laysFinal "WasteHouse$HazardRules" "WasteHouse$HazardRules" "lacks" "[I") ∈ lw_all := lw_g (lw_at lw_m4 6 rfl) rfl
theorem q1119 : (Jvm.Cond.soleField "WasteHouse$HazardRules" "lacks") ∈ lw_all := lw_g (lw_at lw_m4 7 rfl) rfl
theorem q1120 : (Jvm.Cond.lays "WasteHouse$HazardRules" "WasteHouse$HazardRules" "acted" "I") ∈ lw_all := lw_g (lw_at lw_m4 8 rfl) rfl
theorem q1121 : (Jvm.Cond.soleField "WasteHouse$HazardRules" "acted") ∈ lw_all := lw_g (lw_at lw_m4 9 rfl) rfl
theorem q1122 : (Jvm.Cond.lays "WasteHouse$HazardRules" "WasteHouse$HazardRules" "won" "I") ∈ lw_all := lw_g (lw_at lw_m4 10 rfl) rfl
theorem q1123 : (Jvm.Cond.soleField "WasteHouse$HazardRules" "won") ∈ lw_all := lw_g (lw_at lw_m4 11 rfl) rfl
theorem q1124 : (Jvm.Cond.lays "WasteHouse$HazardRules" "WasteHouse$HazardRules" "holding" "I") ∈ lw_all := lw_g (lw_at lw_m4 12 rfl) rfl
theorem q1125 : (Jvm.Cond.soleField "WasteHouse$HazardRules" "holding") ∈ lw_all := lw_g (lw_at lw_m4 13 rfl) rfl
theorem q1126 : (Jvm.Cond.lays "WasteHouse$HazardRules" "WasteHouse$HazardRules" "doubtful" "I") ∈ lw_all := lw_g (lw_at lw_m4 14 rfl) rfl
theorem q1127 : (Jvm.Cond.soleField "WasteHouse$HazardRules" "doubtful") ∈ lw_all := lw_g (lw_at lw_m4 15 rfl) rfl
theorem q1128 : (Jvm.Cond.laysFinal "WasteHouse$HazardRules" "WasteHouse$HazardRules" "order" "[I") ∈ lw_all := lw_g (lw_at lw_m4 16 rfl) rfl
theorem q1129 : (Jvm.Cond.soleField "WasteHouse$HazardRules" "order") ∈ lw_all := lw_g (lw_at lw_m4 17 rfl) rfl
theorem q1130 : (Jvm.Cond.lays "WasteHouse$HazardRules" "WasteHouse$HazardRules" "held" "I") ∈ lw_all := lw_g (lw_at lw_m4 18 rfl) rfl
theorem q1131 : (Jvm.Cond.soleField "WasteHouse$HazardRules" "held") ∈ lw_all := lw_g (lw_at lw_m4 19 rfl) rfl
theorem q1132 : (Jvm.Cond.lays "WasteHouse$HazardRules" "WasteHouse$HazardRules" "lack" "I") ∈ lw_all := lw_g (lw_at lw_m4 20 rfl) rfl
theorem q1133 : (Jvm.Cond.soleField "WasteHouse$HazardRules" "lack") ∈ lw_all := lw_g (lw_at lw_m4 21 rfl) rfl
theorem q1134 : (Jvm.Cond.lays "WasteHouse$HazardRules" "WasteHouse$HazardRules" "step" "I") ∈ lw_all := lw_g (lw_at lw_m4 22 rfl) rfl
theorem q1135 : (Jvm.Cond.soleField "WasteHouse$HazardRules" "step") ∈ lw_all := lw_g (lw_at lw_m4 23 rfl) rfl
theorem q1136 : (Jvm.Cond.superclass "WasteHouse$HazardRules" "java/lang/Object") ∈ lw_all := lw_g (lw_at lw_m4 24 rfl) rfl
theorem q1989 : (Jvm.Cond.selects "WasteHouse$HazardRules" ({ cls := "java/lang/Object", name := "getClass", desc := "()Ljava/lang/Class;" } : Jvm.MethodName) ({ cls := "java/lang/Object", name := "getClass", desc := "()Ljava/lang/Class;" } : Jvm.MethodName)) ∈ lw_all := lw_g (lw_at lw_m7 157 rfl) rfl
theorem q3097 : (Jvm.Cond.selects "WasteHouse$HazardRules" ({ cls := "java/lang/Object", name := "equals", desc := "(Ljava/lang/Object;)Z" } : Jvm.MethodName) ({ cls := "java/lang/Object", name := "equals", desc := "(Ljava/lang/Object;)Z" } : Jvm.MethodName)) ∈ lw_all := lw_g (lw_at lw_m12 65 rfl) rfl
theorem q3202 : (Jvm.Cond.instanceMethod ({ cls := "WasteHouse$HazardRules", name := "unit", desc := "(I)Z" } : Jvm.MethodName)) ∈ lw_all := lw_g (lw_at lw_m12 170 rfl) rfl
theorem q3203 : (Jvm.Cond.selects "WasteHouse$HazardRules" ({ cls := "WasteHouse$HazardRules", name := "unit", desc := "(I)Z" } : Jvm.MethodName) ({ cls := "WasteHouse$HazardRules", name := "unit", desc := "(I)Z" } : Jvm.MethodName)) ∈ lw_all := lw_g (lw_at lw_m12 171 rfl) rfl
theorem q3204 : (Jvm.Cond.code ({ cls := "WasteHouse$HazardRules", name := "unit", desc := "(I)Z" } : Jvm.MethodName) prog_19_method_2_code (2 : Nat) (Option.some Jvm.ClassFile.FieldType.boolean)) ∈ lw_all := lw_g (lw_at lw_m12 172 rfl) rfl
theorem q3612 : (Jvm.Cond.selects "WasteHouse$HazardRules" ({ cls := "java/lang/Object", name := "hashCode", desc := "()I" } : Jvm.MethodName) ({ cls := "java/lang/Object", name := "hashCode", desc := "()I" } : Jvm.MethodName)) ∈ lw_all := lw_g (lw_at lw_m14 100 rfl) rfl
theorem q4775 : (Jvm.Cond.instanceMethod ({ cls := "WasteHouse$HazardRules", name := "read", desc := "()I" } : Jvm.MethodName)) ∈ lw_all := lw_g (lw_at lw_m19 63 rfl) rfl
theorem q4776 : (Jvm.Cond.selects "WasteHouse$HazardRules" ({ cls := "WasteHouse$HazardRules", name := "read", desc := "()I" } : Jvm.MethodName) ({ cls := "WasteHouse$HazardRules", name := "read", desc := "()I" } : Jvm.MethodName)) ∈ lw_all := lw_g (lw_at lw_m19 64 rfl) rfl
theorem q4777 : (Jvm.Cond.code ({ cls := "WasteHouse$HazardRules", name := "read", desc := "()I" } : Jvm.MethodName) prog_19_method_3_code (2 : Nat) (Option.some Jvm.ClassFile.FieldType.int)) ∈ lw_all := lw_g (lw_at lw_m19 65 rfl) rfl
theorem q4778 : (Jvm.Cond.methodLink "WasteHouse$HazardRules" (75 : Nat) ({ cls := "WasteHouse$HazardRules$Words", name := "split", desc := "()V" } : Jvm.MethodName)) ∈ lw_all := lw_g (lw_at lw_m19 66 rfl) rfl
theorem q4799 : (Jvm.Cond.methodLink "WasteHouse$HazardRules" (78 : Nat) ({ cls := "WasteHouse$HazardRules$Reader", name := "read", desc := "()Z" } : Jvm.MethodName)) ∈ lw_all := lw_g (lw_at lw_m19 87 rfl) rfl
theorem q4876 : (Jvm.Cond.methodLink "WasteHouse$HazardRules" (82 : Nat) ({ cls := "WasteHouse$HazardRules$Words", name := "copy", desc := "(LWasteHouse$HazardRules$Words;)V" } : Jvm.MethodName)) ∈ lw_all := lw_g (lw_at lw_m19 164 rfl) rfl
theorem q4881 : (Jvm.Cond.methodLink "WasteHouse$HazardRules" (86 : Nat) ({ cls := "WasteHouse$HazardRules$Code", name := "copy", desc := "(LWasteHouse$HazardRules$Code;)V" } : Jvm.MethodName)) ∈ lw_all := lw_g (lw_at lw_m19 169 rfl) rfl
theorem q4887 : (Jvm.Cond.instanceMethod ({ cls := "WasteHouse$HazardRules", name := "edition", desc := "(J)I" } : Jvm.MethodName)) ∈ lw_all := lw_g (lw_at lw_m19 175 rfl) rfl
theorem q4888 : (Jvm.Cond.selects "WasteHouse$HazardRules" ({ cls := "WasteHouse$HazardRules", name := "edition", desc := "(J)I" } : Jvm.MethodName) ({ cls := "WasteHouse$HazardRules", name := "edition", desc := "(J)I" } : Jvm.MethodName)) ∈ lw_all := lw_g (lw_at lw_m19 176 rfl) rfl
theorem q4889 : (Jvm.Cond.code ({ cls := "WasteHouse$HazardRules", name := "edition", desc := "(J)I" } : Jvm.MethodName) prog_19_method_4_code (5 : Nat) (Option.some Jvm.ClassFile.FieldType.int)) ∈ lw_all := lw_g (lw_at lw_m19 177 rfl) rfl
theorem q4891 : (Jvm.Cond.instanceMethod ({ cls := "WasteHouse$HazardRules", name := "part", desc := "(IJJ)Z" } : Jvm.MethodName)) ∈ lw_all := lw_g (lw_at lw_m19 179 rfl) rfl
theorem q4892 : (Jvm.Cond.selects "WasteHouse$HazardRules" ({ cls := "WasteHouse$HazardRules", name := "part", desc := "(IJJ)Z" } : Jvm.MethodName) ({ cls := "WasteHouse$HazardRules", name := "part", desc := "(IJJ)Z" } : Jvm.MethodName)) ∈ lw_all := lw_g (lw_at lw_m19 180 rfl) rfl
theorem q4893 : (Jvm.Cond.code ({ cls := "WasteHouse$HazardRules", name := "part", desc := "(IJJ)Z" } : Jvm.MethodName) prog_19_method_5_code (6 : Nat) (Option.some Jvm.ClassFile.FieldType.boolean)) ∈ lw_all := lw_g (lw_at lw_m19 181 rfl) rfl
theorem q4894 : (Jvm.Cond.constantLong "WasteHouse$HazardRules" (107 : Nat) (1000000 : Int64)) ∈ lw_all := lw_g (lw_at lw_m19 182 rfl) rfl
theorem q4898 : (Jvm.Cond.instanceMethod ({ cls := "WasteHouse$HazardRules", name := "test", desc := "(II)Z" } : Jvm.MethodName)) ∈ lw_all := lw_g (lw_at lw_m19 186 rfl) rfl
theorem q4899 : (Jvm.Cond.selects "WasteHouse$HazardRules" ({ cls := "WasteHouse$HazardRules", name := "test", desc := "(II)Z" } : Jvm.MethodName) ({ cls := "WasteHouse$HazardRules", name := "test", desc := "(II)Z" } : Jvm.MethodName)) ∈ lw_all := lw_g (lw_at lw_m19 187 rfl) rfl
theorem q4900 : (Jvm.Cond.code ({ cls := "WasteHouse$HazardRules", name := "test", desc := "(II)Z" } : Jvm.MethodName) prog_19_method_6_code (3 : Nat) (Option.some Jvm.ClassFile.FieldType.boolean)) ∈ lw_all := lw_g (lw_at lw_m19 188 rfl) rfl
theorem q4903 : (Jvm.Cond.instanceMethod ({ cls := "WasteHouse$HazardRules", name := "way", desc := "(Z)Z" } : Jvm.MethodName)) ∈ lw_all := lw_g (lw_at lw_m19 191 rfl) rfl
theorem q4904 : (Jvm.Cond.selects "WasteHouse$HazardRules" ({ cls := "WasteHouse$HazardRules", name := "way", desc := "(Z)Z" } : Jvm.MethodName) ({ cls := "WasteHouse$HazardRules", name := "way", desc := "(Z)Z" } : Jvm.MethodName)) ∈ lw_all := lw_g (lw_at lw_m19 192 rfl) rfl
theorem q4905 : (Jvm.Cond.code ({ cls := "WasteHouse$HazardRules", name := "way", desc := "(Z)Z" } : Jvm.MethodName) prog_19_method_8_code (3 : Nat) (Option.some Jvm.ClassFile.FieldType.boolean)) ∈ lw_all := lw_g (lw_at lw_m19 193 rfl) rfl
theorem q4907 : (Jvm.Cond.instanceMethod ({ cls := "WasteHouse$HazardRules", name := "run", desc := "(J)I" } : Jvm.MethodName)) ∈ lw_all := lw_g (lw_at lw_m19 195 rfl) rfl
theorem q4908 : (Jvm.Cond.selects "WasteHouse$HazardRules" ({ cls := "WasteHouse$HazardRules", name := "run", desc := "(J)I" } : Jvm.MethodName) ({ cls := "WasteHouse$HazardRules", name := "run", desc := "(J)I" } : Jvm.MethodName)) ∈ lw_all := lw_g (lw_at lw_m19 196 rfl) rfl
theorem q4909 : (Jvm.Cond.code ({ cls := "WasteHouse$HazardRules", name := "run", desc := "(J)I" } : Jvm.MethodName) prog_19_method_21_code (10 : Nat) (Option.some Jvm.ClassFile.FieldType.int)) ∈ lw_all := lw_g (lw_at lw_m19 197 rfl) rfl
theorem q4910 : (Jvm.Cond.methodLink "WasteHouse$HazardRules" (170 : Nat) ({ cls := "WasteHouse$HazardRules", name := "begin", desc := "(J)V" } : Jvm.MethodName)) ∈ lw_all := lw_g (lw_at lw_m19 198 rfl) rfl
theorem q4911 : (Jvm.Cond.privateMethod ({ cls := "WasteHouse$HazardRules", name := "begin", desc := "(J)V" } : Jvm.MethodName)) ∈ lw_tbl := lw_at lw_m19 199 rfl
theorem q4912 : (Jvm.Cond.instanceMethod ({ cls := "WasteHouse$HazardRules", name := "begin", desc := "(J)V" } : Jvm.MethodName)) ∈ lw_all := lw_g (lw_at lw_m19 200 rfl) rfl
theorem q4913 : (Jvm.Cond.code ({ cls := "WasteHouse$HazardRules", name := "begin", desc := "(J)V" } : Jvm.MethodName) prog_19_method_17_code (3 : Nat) (Option.none : Option Jvm.ClassFile.FieldType)) ∈ lw_all := lw_g (lw_at lw_m19 201 rfl) rfl
theorem q4914 : (Jvm.Cond.methodLink "WasteHouse$HazardRules" (160 : Nat) ({ cls := "WasteHouse$HazardRules", name := "edition", desc := "(J)I" } : Jvm.MethodName)) ∈ lw_all := lw_g (lw_at lw_m19 202 rfl) rfl
theorem q4915 : (Jvm.Cond.methodLink "WasteHouse$HazardRules" (174 : Nat) ({ cls := "WasteHouse$HazardRules", name := "firstRule", desc := "()I" } : Jvm.MethodName)) ∈ lw_all := lw_g (lw_at lw_m19 203 rfl) rfl
theorem q4916 : (Jvm.Cond.privateMethod ({ cls := "WasteHouse$HazardRules", name := "firstRule", desc := "()I" } : Jvm.MethodName)) ∈ lw_tbl := lw_at lw_m19 204 rfl
theorem q4917 : (Jvm.Cond.instanceMethod ({ cls := "WasteHouse$HazardRules", name := "firstRule", desc := "()I" } : Jvm.MethodName)) ∈ lw_all := lw_g (lw_at lw_m19 205 rfl) rfl
theorem q4918 : (Jvm.Cond.code ({ cls := "WasteHouse$HazardRules", name := "firstRule", desc := "()I" } : Jvm.MethodName) prog_19_method_18_code (1 : Nat) (Option.some Jvm.ClassFile.FieldType.int)) ∈ lw_all := lw_g (lw_at lw_m19 206 rfl) rfl
theorem q4919 : (Jvm.Cond.methodLink "WasteHouse$HazardRules" (178 : Nat) ({ cls := "WasteHouse$HazardRules", name := "ruleEnd", desc := "()I" } : Jvm.MethodName)) ∈ lw_all := lw_g (lw_at lw_m19 207 rfl) rfl
theorem q4920 : (Jvm.Cond.privateMethod ({ cls := "WasteHouse$HazardRules", name := "ruleEnd", desc := "()I" } : Jvm.MethodName)) ∈ lw_tbl := lw_at lw_m19 208 rfl
theorem q4921 : (Jvm.Cond.instanceMethod ({ cls := "WasteHouse$HazardRules", name := "ruleEnd", desc := "()I" } : Jvm.MethodName)) ∈ lw_all := lw_g (lw_at lw_m19 209 rfl) rfl
theorem q4922 : (Jvm.Cond.code ({ cls := "WasteHouse$HazardRules", name := "ruleEnd", desc := "()I" } : Jvm.MethodName) prog_19_method_19_code (1 : Nat) (Option.some Jvm.ClassFile.FieldType.int)) ∈ lw_all := lw_g (lw_at lw_m19 210 rfl) rfl
theorem q4923 : (Jvm.Cond.methodLink "WasteHouse$HazardRules" (181 : Nat) ({ cls := "WasteHouse$HazardRules", name := "hasTests", desc := "(IZ)Z" } : Jvm.MethodName)) ∈ lw_all := lw_g (lw_at lw_m19 211 rfl) rfl
theorem q4924 : (Jvm.Cond.privateMethod ({ cls := "WasteHouse$HazardRules", name := "hasTests", desc := "(IZ)Z" } : Jvm.MethodName)) ∈ lw_tbl := lw_at lw_m19 212 rfl
theorem q4925 : (Jvm.Cond.instanceMethod ({ cls := "WasteHouse$HazardRules", name := "hasTests", desc := "(IZ)Z" } : Jvm.MethodName)) ∈ lw_all := lw_g (lw_at lw_m19 213 rfl) rfl
theorem q4926 : (Jvm.Cond.code ({ cls := "WasteHouse$HazardRules", name := "hasTests", desc := "(IZ)Z" } : Jvm.MethodName) prog_19_method_16_code (6 : Nat) (Option.some Jvm.ClassFile.FieldType.boolean)) ∈ lw_all := lw_g (lw_at lw_m19 214 rfl) rfl
theorem q4927 : (Jvm.Cond.methodLink "WasteHouse$HazardRules" (188 : Nat) ({ cls := "WasteHouse$HazardRules", name := "itemState", desc := "(I)I" } : Jvm.MethodName)) ∈ lw_all := lw_g (lw_at lw_m19 215 rfl) rfl
theorem q4928 : (Jvm.Cond.privateMethod ({ cls := "WasteHouse$HazardRules", name := "itemState", desc := "(I)I" } : Jvm.MethodName)) ∈ lw_tbl := lw_at lw_m19 216 rfl
theorem q4929 : (Jvm.Cond.instanceMethod ({ cls := "WasteHouse$HazardRules", name := "itemState", desc := "(I)I" } : Jvm.MethodName)) ∈ lw_all := lw_g (lw_at lw_m19 217 rfl) rfl
theorem q4930 : (Jvm.Cond.code ({ cls := "WasteHouse$HazardRules", name := "itemState", desc := "(I)I" } : Jvm.MethodName) prog_19_method_15_code (6 : Nat) (Option.some Jvm.ClassFile.FieldType.int)) ∈ lw_all := lw_g (lw_at lw_m19 218 rfl) rfl
theorem q4931 : (Jvm.Cond.methodLink "WasteHouse$HazardRules" (141 : Nat) ({ cls := "WasteHouse$HazardRules", name := "byTest", desc := "(IZI)I" } : Jvm.MethodName)) ∈ lw_all := lw_g (lw_at lw_m19 219 rfl) rfl
theorem q4932 : (Jvm.Cond.privateMethod ({ cls := "WasteHouse$HazardRules", name := "byTest", desc := "(IZI)I" } : Jvm.MethodName)) ∈ lw_tbl := lw_at lw_m19 220 rfl
theorem q4933 : (Jvm.Cond.instanceMethod ({ cls := "WasteHouse$HazardRules", name := "byTest", desc := "(IZI)I" } : Jvm.MethodName)) ∈ lw_all := lw_g (lw_at lw_m19 221 rfl) rfl
theorem q4934 : (Jvm.Cond.code ({ cls := "WasteHouse$HazardRules", name := "byTest", desc := "(IZI)I" } : Jvm.MethodName) prog_19_method_13_code (4 : Nat) (Option.some Jvm.ClassFile.FieldType.int)) ∈ lw_all := lw_g (lw_at lw_m19 222 rfl) rfl
theorem q4935 : (Jvm.Cond.methodLink "WasteHouse$HazardRules" (145 : Nat) ({ cls := "WasteHouse$HazardRules", name := "byClass", desc := "(I)I" } : Jvm.MethodName)) ∈ lw_all := lw_g (lw_at lw_m19 223 rfl) rfl
theorem q4936 : (Jvm.Cond.privateMethod ({ cls := "WasteHouse$HazardRules", name := "byClass", desc := "(I)I" } : Jvm.MethodName)) ∈ lw_tbl := lw_at lw_m19 224 rfl
theorem q4937 : (Jvm.Cond.instanceMethod ({ cls := "WasteHouse$HazardRules", name := "byClass", desc := "(I)I" } : Jvm.MethodName)) ∈ lw_all := lw_g (lw_at lw_m19 225 rfl) rfl
theorem q4938 : (Jvm.Cond.code ({ cls := "WasteHouse$HazardRules", name := "byClass", desc := "(I)I" } : Jvm.MethodName) prog_19_method_14_code (2 : Nat) (Option.some Jvm.ClassFile.FieldType.int)) ∈ lw_all := lw_g (lw_at lw_m19 226 rfl) rfl
theorem q4939 : (Jvm.Cond.methodLink "WasteHouse$HazardRules" (149 : Nat) ({ cls := "WasteHouse$HazardRules", name := "sumOf", desc := "(IZI)J" } : Jvm.MethodName)) ∈ lw_all := lw_g (lw_at lw_m19 227 rfl) rfl
theorem q4940 : (Jvm.Cond.privateMethod ({ cls := "WasteHouse$HazardRules", name := "sumOf", desc := "(IZI)J" } : Jvm.MethodName)) ∈ lw_tbl := lw_at lw_m19 228 rfl
theorem q4941 : (Jvm.Cond.instanceMethod ({ cls := "WasteHouse$HazardRules", name := "sumOf", desc := "(IZI)J" } : Jvm.MethodName)) ∈ lw_all := lw_g (lw_at lw_m19 229 rfl) rfl
theorem q4942 : (Jvm.Cond.code ({ cls := "WasteHouse$HazardRules", name := "sumOf", desc := "(IZI)J" } : Jvm.MethodName) prog_19_method_11_code (10 : Nat) (Option.some Jvm.ClassFile.FieldType.long)) ∈ lw_all := lw_g (lw_at lw_m19 230 rfl) rfl
theorem q4943 : (Jvm.Cond.methodLink "WasteHouse$HazardRules" (125 : Nat) ({ cls := "WasteHouse$HazardRules", name := "termAt", desc := "(IZ)J" } : Jvm.MethodName)) ∈ lw_all := lw_g (lw_at lw_m19 231 rfl) rfl
theorem q4944 : (Jvm.Cond.privateMethod ({ cls := "WasteHouse$HazardRules", name := "termAt", desc := "(IZ)J" } : Jvm.MethodName)) ∈ lw_tbl := lw_at lw_m19 232 rfl
theorem q4945 : (Jvm.Cond.instanceMethod ({ cls := "WasteHouse$HazardRules", name := "termAt", desc := "(IZ)J" } : Jvm.MethodName)) ∈ lw_all := lw_g (lw_at lw_m19 233 rfl) rfl
theorem q4946 : (Jvm.Cond.code ({ cls := "WasteHouse$HazardRules", name := "termAt", desc := "(IZ)J" } : Jvm.MethodName) prog_19_method_10_code (4 : Nat) (Option.some Jvm.ClassFile.FieldType.long)) ∈ lw_all := lw_g (lw_at lw_m19 234 rfl) rfl
theorem q4947 : (Jvm.Cond.methodLink "WasteHouse$HazardRules" (112 : Nat) ({ cls := "WasteHouse$HazardRules", name := "term", desc := "(IIIIIZ)J" } : Jvm.MethodName)) ∈ lw_all := lw_g (lw_at lw_m19 235 rfl) rfl
theorem q4948 : (Jvm.Cond.privateMethod ({ cls := "WasteHouse$HazardRules", name := "term", desc := "(IIIIIZ)J" } : Jvm.MethodName)) ∈ lw_tbl := lw_at lw_m19 236 rfl
theorem q4949 : (Jvm.Cond.instanceMethod ({ cls := "WasteHouse$HazardRules", name := "term", desc := "(IIIIIZ)J" } : Jvm.MethodName)) ∈ lw_all := lw_g (lw_at lw_m19 237 rfl) rfl
theorem q4950 : (Jvm.Cond.code ({ cls := "WasteHouse$HazardRules", name := "term", desc := "(IIIIIZ)J" } : Jvm.MethodName) prog_19_method_9_code (10 : Nat) (Option.some Jvm.ClassFile.FieldType.long)) ∈ lw_all := lw_g (lw_at lw_m19 238 rfl) rfl
theorem q4951 : (Jvm.Cond.methodLink "WasteHouse$HazardRules" (153 : Nat) ({ cls := "WasteHouse$HazardRules", name := "bySum", desc := "(ZJJJ)I" } : Jvm.MethodName)) ∈ lw_all := lw_g (lw_at lw_m19 239 rfl) rfl
theorem q4952 : (Jvm.Cond.privateMethod ({ cls := "WasteHouse$HazardRules", name := "bySum", desc := "(ZJJJ)I" } : Jvm.MethodName)) ∈ lw_tbl := lw_at lw_m20 0 rfl
theorem q4953 : (Jvm.Cond.instanceMethod ({ cls := "WasteHouse$HazardRules", name := "bySum", desc := "(ZJJJ)I" } : Jvm.MethodName)) ∈ lw_all := lw_g (lw_at lw_m20 1 rfl) rfl
theorem q4954 : (Jvm.Cond.code ({ cls := "WasteHouse$HazardRules", name := "bySum", desc := "(ZJJJ)I" } : Jvm.MethodName) prog_19_method_12_code (10 : Nat) (Option.some Jvm.ClassFile.FieldType.int)) ∈ lw_all := lw_g (lw_at lw_m20 2 rfl) rfl
theorem q4955 : (Jvm.Cond.methodLink "WasteHouse$HazardRules" (191 : Nat) ({ cls := "WasteHouse$HazardRules", name := "note", desc := "(IIII)V" } : Jvm.MethodName)) ∈ lw_all := lw_g (lw_at lw_m20 3 rfl) rfl
theorem q4956 : (Jvm.Cond.privateMethod ({ cls := "WasteHouse$HazardRules", name := "note", desc := "(IIII)V" } : Jvm.MethodName)) ∈ lw_tbl := lw_at lw_m20 4 rfl
theorem q4957 : (Jvm.Cond.instanceMethod ({ cls := "WasteHouse$HazardRules", name := "note", desc := "(IIII)V" } : Jvm.MethodName)) ∈ lw_all := lw_g (lw_at lw_m20 5 rfl) rfl
theorem q4958 : (Jvm.Cond.code ({ cls := "WasteHouse$HazardRules", name := "note", desc := "(IIII)V" } : Jvm.MethodName) prog_19_method_20_code (5 : Nat) (Option.none : Option Jvm.ClassFile.FieldType)) ∈ lw_all := lw_g (lw_at lw_m20 6 rfl) rfl
theorem q4959 : (Jvm.Cond.methodLink "WasteHouse$HazardRules" (195 : Nat) ({ cls := "WasteHouse$HazardRules", name := "verdict", desc := "()I" } : Jvm.MethodName)) ∈ lw_all := lw_g (lw_at lw_m20 7 rfl) rfl
theorem q4960 : (Jvm.Cond.privateMethod ({ cls := "WasteHouse$HazardRules", name := "verdict", desc := "()I" } : Jvm.MethodName)) ∈ lw_tbl := lw_at lw_m20 8 rfl
theorem q4961 : (Jvm.Cond.instanceMethod ({ cls := "WasteHouse$HazardRules", name := "verdict", desc := "()I" } : Jvm.MethodName)) ∈ lw_all := lw_g (lw_at lw_m20 9 rfl) rfl
theorem q4962 : (Jvm.Cond.code ({ cls := "WasteHouse$HazardRules", name := "verdict", desc := "()I" } : Jvm.MethodName) prog_19_method_23_code (2 : Nat) (Option.some Jvm.ClassFile.FieldType.int)) ∈ lw_all := lw_g (lw_at lw_m20 10 rfl) rfl
theorem q4963 : (Jvm.Cond.methodLink "WasteHouse$HazardRules" (198 : Nat) ({ cls := "WasteHouse$HazardRules", name := "isOpen", desc := "(I)Z" } : Jvm.MethodName)) ∈ lw_all := lw_g (lw_at lw_m20 11 rfl) rfl
theorem q4964 : (Jvm.Cond.privateMethod ({ cls := "WasteHouse$HazardRules", name := "isOpen", desc := "(I)Z" } : Jvm.MethodName)) ∈ lw_tbl := lw_at lw_m20 12 rfl
theorem q4965 : (Jvm.Cond.instanceMethod ({ cls := "WasteHouse$HazardRules", name := "isOpen", desc := "(I)Z" } : Jvm.MethodName)) ∈ lw_all := lw_g (lw_at lw_m20 13 rfl) rfl
theorem q4966 : (Jvm.Cond.code ({ cls := "WasteHouse$HazardRules", name := "isOpen", desc := "(I)Z" } : Jvm.MethodName) prog_19_method_22_code (2 : Nat) (Option.some Jvm.ClassFile.FieldType.boolean)) ∈ lw_all := lw_g (lw_at lw_m20 14 rfl) rfl
theorem q4968 : (Jvm.Cond.instanceMethod ({ cls := "WasteHouse$HazardRules", name := "walk", desc := "(J)I" } : Jvm.MethodName)) ∈ lw_all := lw_g (lw_at lw_m20 16 rfl) rfl
theorem q4969 : (Jvm.Cond.selects "WasteHouse$HazardRules" ({ cls := "WasteHouse$HazardRules", name := "walk", desc := "(J)I" } : Jvm.MethodName) ({ cls := "WasteHouse$HazardRules", name := "walk", desc := "(J)I" } : Jvm.MethodName)) ∈ lw_all := lw_g (lw_at lw_m20 17 rfl) rfl
theorem q4970 : (Jvm.Cond.code ({ cls := "WasteHouse$HazardRules", name := "walk", desc := "(J)I" } : Jvm.MethodName) prog_19_method_27_code (5 : Nat) (Option.some Jvm.ClassFile.FieldType.int)) ∈ lw_all := lw_g (lw_at lw_m20 18 rfl) rfl
theorem q4971 : (Jvm.Cond.methodLink "WasteHouse$HazardRules" (255 : Nat) ({ cls := "WasteHouse$HazardRules", name := "walkRule", desc := "(IZ)V" } : Jvm.MethodName)) ∈ lw_all := lw_g (lw_at lw_m20 19 rfl) rfl
theorem q4972 : (Jvm.Cond.privateMethod ({ cls := "WasteHouse$HazardRules", name := "walkRule", desc := "(IZ)V" } : Jvm.MethodName)) ∈ lw_tbl := lw_at lw_m20 20 rfl
theorem q4973 : (Jvm.Cond.instanceMethod ({ cls := "WasteHouse$HazardRules", name := "walkRule", desc := "(IZ)V" } : Jvm.MethodName)) ∈ lw_all := lw_g (lw_at lw_m20 21 rfl) rfl
theorem q4974 : (Jvm.Cond.code ({ cls := "WasteHouse$HazardRules", name := "walkRule", desc := "(IZ)V" } : Jvm.MethodName) prog_19_method_26_code (11 : Nat) (Option.none : Option Jvm.ClassFile.FieldType)) ∈ lw_all := lw_g (lw_at lw_m20 22 rfl) rfl
theorem q4975 : (Jvm.Cond.methodLink "WasteHouse$HazardRules" (218 : Nat) ({ cls := "WasteHouse$HazardRules", name := "walkNumber", desc := "()I" } : Jvm.MethodName)) ∈ lw_all := lw_g (lw_at lw_m20 23 rfl) rfl
theorem q4976 : (Jvm.Cond.privateMethod ({ cls := "WasteHouse$HazardRules", name := "walkNumber", desc := "()I" } : Jvm.MethodName)) ∈ lw_tbl := lw_at lw_m20 24 rfl
theorem q4977 : (Jvm.Cond.instanceMethod ({ cls := "WasteHouse$HazardRules", name := "walkNumber", desc := "()I" } : Jvm.MethodName)) ∈ lw_all := lw_g (lw_at lw_m20 25 rfl) rfl
theorem q4978 : (Jvm.Cond.code ({ cls := "WasteHouse$HazardRules", name := "walkNumber", desc := "()I" } : Jvm.MethodName) prog_19_method_24_code (1 : Nat) (Option.some Jvm.ClassFile.FieldType.int)) ∈ lw_all := lw_g (lw_at lw_m20 26 rfl) rfl
theorem q4979 : (Jvm.Cond.fieldLink "WasteHouse$HazardRules" (212 : Nat) "WasteHouse$HazardRules$Word" "TEST" "LWasteHouse$HazardRules$Word;") ∈ lw_all := lw_g (lw_at lw_m20 27 rfl) rfl
theorem q4980 : (Jvm.Cond.methodLink "WasteHouse$HazardRules" (224 : Nat) ({ cls := "WasteHouse$HazardRules$Words", name := "is", desc := "(ILWasteHouse$HazardRules$Word;)Z" } : Jvm.MethodName)) ∈ lw_all := lw_g (lw_at lw_m20 28 rfl) rfl
theorem q4981 : (Jvm.Cond.methodLink "WasteHouse$HazardRules" (249 : Nat) ({ cls := "WasteHouse$HazardRules", name := "walkItem", desc := "()I" } : Jvm.MethodName)) ∈ lw_all := lw_g (lw_at lw_m20 29 rfl) rfl
theorem q4982 : (Jvm.Cond.privateMethod ({ cls := "WasteHouse$HazardRules", name := "walkItem", desc := "()I" } : Jvm.MethodName)) ∈ lw_tbl := lw_at lw_m20 30 rfl
theorem q4983 : (Jvm.Cond.instanceMethod ({ cls := "WasteHouse$HazardRules", name := "walkItem", desc := "()I" } : Jvm.MethodName)) ∈ lw_all := lw_g (lw_at lw_m20 31 rfl) rfl
theorem q4984 : (Jvm.Cond.code ({ cls := "WasteHouse$HazardRules", name := "walkItem", desc := "()I" } : Jvm.MethodName) prog_19_method_25_code (12 : Nat) (Option.some Jvm.ClassFile.FieldType.int)) ∈ lw_all := lw_g (lw_at lw_m20 32 rfl) rfl
theorem q4985 : (Jvm.Cond.fieldLink "WasteHouse$HazardRules" (221 : Nat) "WasteHouse$HazardRules$Word" "IS" "LWasteHouse$HazardRules$Word;") ∈ lw_all := lw_g (lw_at lw_m20 33 rfl) rfl
theorem q4986 : (Jvm.Cond.fieldLink "WasteHouse$HazardRules" (228 : Nat) "WasteHouse$HazardRules$Word" "HOLDS" "LWasteHouse$HazardRules$Word;") ∈ lw_all := lw_g (lw_at lw_m20 34 rfl) rfl
theorem q4987 : (Jvm.Cond.fieldLink "WasteHouse$HazardRules" (231 : Nat) "WasteHouse$HazardRules$Word" "PLUS" "LWasteHouse$HazardRules$Word;") ∈ lw_all := lw_g (lw_at lw_m20 35 rfl) rfl
theorem q4988 : (Jvm.Cond.fieldLink "WasteHouse$HazardRules" (234 : Nat) "WasteHouse$HazardRules$Word" "MINUS" "LWasteHouse$HazardRules$Word;") ∈ lw_all := lw_g (lw_at lw_m20 36 rfl) rfl
theorem q4989 : (Jvm.Cond.fieldLink "WasteHouse$HazardRules" (237 : Nat) "WasteHouse$HazardRules$Word" "CUT" "LWasteHouse$HazardRules$Word;") ∈ lw_all := lw_g (lw_at lw_m20 37 rfl) rfl
theorem q4990 : (Jvm.Cond.fieldLink "WasteHouse$HazardRules" (240 : Nat) "WasteHouse$HazardRules$Word" "BY" "LWasteHouse$HazardRules$Word;") ∈ lw_all := lw_g (lw_at lw_m20 38 rfl) rfl
theorem q4991 : (Jvm.Cond.fieldLink "WasteHouse$HazardRules" (243 : Nat) "WasteHouse$HazardRules$Word" "OVER" "LWasteHouse$HazardRules$Word;") ∈ lw_all := lw_g (lw_at lw_m20 39 rfl) rfl
theorem q4992 : (Jvm.Cond.fieldLink "WasteHouse$HazardRules" (252 : Nat) "WasteHouse$HazardRules$Word" "AND" "LWasteHouse$HazardRules$Word;") ∈ lw_all := lw_g (lw_at lw_m20 40 rfl) rfl
theorem q4994 : (Jvm.Cond.instanceMethod ({ cls := "WasteHouse$HazardRules", name := "cls", desc := "(I)I" } : Jvm.MethodName)) ∈ lw_all := lw_g (lw_at lw_m20 42 rfl) rfl
theorem q4995 : (Jvm.Cond.selects "WasteHouse$HazardRules" ({ cls := "WasteHouse$HazardRules", name := "cls", desc := "(I)I" } : Jvm.MethodName) ({ cls := "WasteHouse$HazardRules", name := "cls", desc := "(I)I" } : Jvm.MethodName)) ∈ lw_all := lw_g (lw_at lw_m20 43 rfl) rfl
theorem q4996 : (Jvm.Cond.code ({ cls := "WasteHouse$HazardRules", name := "cls", desc := "(I)I" } : Jvm.MethodName) prog_19_method_29_code (2 : Nat) (Option.some Jvm.ClassFile.FieldType.int)) ∈ lw_all := lw_g (lw_at lw_m20 44 rfl) rfl
theorem q4997 : (Jvm.Cond.methodLink "WasteHouse$HazardRules" (264 : Nat) ({ cls := "WasteHouse$HazardRules", name := "bit", desc := "(II)I" } : Jvm.MethodName)) ∈ lw_all := lw_g (lw_at lw_m20 45 rfl) rfl
theorem q4998 : (Jvm.Cond.static ({ cls := "WasteHouse$HazardRules", name := "bit", desc := "(II)I" } : Jvm.MethodName)) ∈ lw_all := lw_g (lw_at lw_m20 46 rfl) rfl
theorem q4999 : (Jvm.Cond.code ({ cls := "WasteHouse$HazardRules", name := "bit", desc := "(II)I" } : Jvm.MethodName) prog_19_method_28_code (4 : Nat) (Option.some Jvm.ClassFile.FieldType.int)) ∈ lw_all := lw_g (lw_at lw_m20 47 rfl) rfl
theorem q5000 : (Jvm.Cond.methodLink "WasteHouse$HazardRules" (259 : Nat) ({ cls := "java/lang/Integer", name := "numberOfTrailingZeros", desc := "(I)I" } : Jvm.MethodName)) ∈ lw_all := lw_g (lw_at lw_m20 48 rfl) rfl
theorem q5002 : (Jvm.Cond.instanceMethod ({ cls := "WasteHouse$HazardRules", name := "mark", desc := "(I)I" } : Jvm.MethodName)) ∈ lw_all := lw_g (lw_at lw_m20 50 rfl) rfl
theorem q5003 : (Jvm.Cond.selects "WasteHouse$HazardRules" ({ cls := "WasteHouse$HazardRules", name := "mark", desc := "(I)I" } : Jvm.MethodName) ({ cls := "WasteHouse$HazardRules", name := "mark", desc := "(I)I" } : Jvm.MethodName)) ∈ lw_all := lw_g (lw_at lw_m20 51 rfl) rfl
theorem q5004 : (Jvm.Cond.code ({ cls := "WasteHouse$HazardRules", name := "mark", desc := "(I)I" } : Jvm.MethodName) prog_19_method_30_code (2 : Nat) (Option.some Jvm.ClassFile.FieldType.int)) ∈ lw_all := lw_g (lw_at lw_m20 52 rfl) rfl
theorem q5006 : (Jvm.Cond.instanceMethod ({ cls := "WasteHouse$HazardRules", name := "moving", desc := "()I" } : Jvm.MethodName)) ∈ lw_all := lw_g (lw_at lw_m20 54 rfl) rfl
theorem q5007 : (Jvm.Cond.selects "WasteHouse$HazardRules" ({ cls := "WasteHouse$HazardRules", name := "moving", desc := "()I" } : Jvm.MethodName) ({ cls := "WasteHouse$HazardRules", name := "moving", desc := "()I" } : Jvm.MethodName)) ∈ lw_all := lw_g (lw_at lw_m20 55 rfl) rfl
theorem q5008 : (Jvm.Cond.code ({ cls := "WasteHouse$HazardRules", name := "moving", desc := "()I" } : Jvm.MethodName) prog_19_method_31_code (1 : Nat) (Option.some Jvm.ClassFile.FieldType.int)) ∈ lw_all := lw_g (lw_at lw_m20 56 rfl) rfl
theorem q5010 : (Jvm.Cond.instanceMethod ({ cls := "WasteHouse$HazardRules", name := "open", desc := "(II)I" } : Jvm.MethodName)) ∈ lw_all := lw_g (lw_at lw_m20 58 rfl) rfl
theorem q5011 : (Jvm.Cond.selects "WasteHouse$HazardRules" ({ cls := "WasteHouse$HazardRules", name := "open", desc := "(II)I" } : Jvm.MethodName) ({ cls := "WasteHouse$HazardRules", name := "open", desc := "(II)I" } : Jvm.MethodName)) ∈ lw_all := lw_g (lw_at lw_m20 59 rfl) rfl
theorem q5012 : (Jvm.Cond.code ({ cls := "WasteHouse$HazardRules", name := "open", desc := "(II)I" } : Jvm.MethodName) prog_19_method_32_code (5 : Nat) (Option.some Jvm.ClassFile.FieldType.int)) ∈ lw_all := lw_g (lw_at lw_m20 60 rfl) rfl
theorem q5014 : (Jvm.Cond.instanceMethod ({ cls := "WasteHouse$HazardRules", name := "missing", desc := "(I)I" } : Jvm.MethodName)) ∈ lw_all := lw_g (lw_at lw_m20 62 rfl) rfl
theorem q5015 : (Jvm.Cond.selects "WasteHouse$HazardRules" ({ cls := "WasteHouse$HazardRules", name := "missing", desc := "(I)I" } : Jvm.MethodName) ({ cls := "WasteHouse$HazardRules", name := "missing", desc := "(I)I" } : Jvm.MethodName)) ∈ lw_all := lw_g (lw_at lw_m20 63 rfl) rfl
theorem q5016 : (Jvm.Cond.code ({ cls := "WasteHouse$HazardRules", name := "missing", desc := "(I)I" } : Jvm.MethodName) prog_19_method_34_code (4 : Nat) (Option.some Jvm.ClassFile.FieldType.int)) ∈ lw_all := lw_g (lw_at lw_m20 64 rfl) rfl
theorem q5017 : (Jvm.Cond.methodLink "WasteHouse$HazardRules" (268 : Nat) ({ cls := "WasteHouse$HazardRules", name := "isLacking", desc := "(I)Z" } : Jvm.MethodName)) ∈ lw_all := lw_g (lw_at lw_m20 65 rfl) rfl
theorem q5018 : (Jvm.Cond.privateMethod ({ cls := "WasteHouse$HazardRules", name := "isLacking", desc := "(I)Z" } : Jvm.MethodName)) ∈ lw_tbl := lw_at lw_m20 66 rfl
theorem q5019 : (Jvm.Cond.instanceMethod ({ cls := "WasteHouse$HazardRules", name := "isLacking", desc := "(I)Z" } : Jvm.MethodName)) ∈ lw_all := lw_g (lw_at lw_m20 67 rfl) rfl
theorem q5020 : (Jvm.Cond.code ({ cls := "WasteHouse$HazardRules", name := "isLacking", desc := "(I)Z" } : Jvm.MethodName) prog_19_method_33_code (4 : Nat) (Option.some Jvm.ClassFile.FieldType.boolean)) ∈ lw_all := lw_g (lw_at lw_m20 68 rfl) rfl
theorem q5022 : (Jvm.Cond.instanceMethod ({ cls := "WasteHouse$HazardRules", name := "explain", desc := "(III)I" } : Jvm.MethodName)) ∈ lw_all := lw_g (lw_at lw_m20 70 rfl) rfl
theorem q5023 : (Jvm.Cond.selects "WasteHouse$HazardRules" ({ cls := "WasteHouse$HazardRules", name := "explain", desc := "(III)I" } : Jvm.MethodName) ({ cls := "WasteHouse$HazardRules", name := "explain", desc := "(III)I" } : Jvm.MethodName)) ∈ lw_all := lw_g (lw_at lw_m20 71 rfl) rfl
theorem q5024 : (Jvm.Cond.code ({ cls := "WasteHouse$HazardRules", name := "explain", desc := "(III)I" } : Jvm.MethodName) prog_19_method_35_code (6 : Nat) (Option.some Jvm.ClassFile.FieldType.int)) ∈ lw_all := lw_g (lw_at lw_m20 72 rfl) rfl
theorem q5026 : (Jvm.Cond.instanceMethod ({ cls := "WasteHouse$HazardRules", name := "limit", desc := "(I)J" } : Jvm.MethodName)) ∈ lw_all := lw_g (lw_at lw_m20 74 rfl) rfl
theorem q5027 : (Jvm.Cond.selects "WasteHouse$HazardRules" ({ cls := "WasteHouse$HazardRules", name := "limit", desc := "(I)J" } : Jvm.MethodName) ({ cls := "WasteHouse$HazardRules", name := "limit", desc := "(I)J" } : Jvm.MethodName)) ∈ lw_all := lw_g (lw_at lw_m20 75 rfl) rfl
theorem q5028 : (Jvm.Cond.code ({ cls := "WasteHouse$HazardRules", name := "limit", desc := "(I)J" } : Jvm.MethodName) prog_19_method_36_code (7 : Nat) (Option.some Jvm.ClassFile.FieldType.long)) ∈ lw_all := lw_g (lw_at lw_m20 76 rfl) rfl
theorem q5029 : (Jvm.Cond.constantLong "WasteHouse$HazardRules" (271 : Nat) (-1 : Int64)) ∈ lw_all := lw_g (lw_at lw_m20 77 rfl) rfl
theorem q5031 : (Jvm.Cond.instanceMethod ({ cls := "WasteHouse$HazardRules", name := "sum", desc := "(III)J" } : Jvm.MethodName)) ∈ lw_all := lw_g (lw_at lw_m20 79 rfl) rfl
theorem q5032 : (Jvm.Cond.selects "WasteHouse$HazardRules" ({ cls := "WasteHouse$HazardRules", name := "sum", desc := "(III)J" } : Jvm.MethodName) ({ cls := "WasteHouse$HazardRules", name := "sum", desc := "(III)J" } : Jvm.MethodName)) ∈ lw_all := lw_g (lw_at lw_m20 80 rfl) rfl
theorem q5033 : (Jvm.Cond.code ({ cls := "WasteHouse$HazardRules", name := "sum", desc := "(III)J" } : Jvm.MethodName) prog_19_method_38_code (7 : Nat) (Option.some Jvm.ClassFile.FieldType.long)) ∈ lw_all := lw_g (lw_at lw_m20 81 rfl) rfl
theorem q5034 : (Jvm.Cond.methodLink "WasteHouse$HazardRules" (273 : Nat) ({ cls := "WasteHouse$HazardRules", name := "isRule", desc := "(I)Z" } : Jvm.MethodName)) ∈ lw_all := lw_g (lw_at lw_m20 82 rfl) rfl
theorem q5035 : (Jvm.Cond.privateMethod ({ cls := "WasteHouse$HazardRules", name := "isRule", desc := "(I)Z" } : Jvm.MethodName)) ∈ lw_tbl := lw_at lw_m20 83 rfl
theorem q5036 : (Jvm.Cond.instanceMethod ({ cls := "WasteHouse$HazardRules", name := "isRule", desc := "(I)Z" } : Jvm.MethodName)) ∈ lw_all := lw_g (lw_at lw_m20 84 rfl) rfl
theorem q5037 : (Jvm.Cond.code ({ cls := "WasteHouse$HazardRules", name := "isRule", desc := "(I)Z" } : Jvm.MethodName) prog_19_method_37_code (2 : Nat) (Option.some Jvm.ClassFile.FieldType.boolean)) ∈ lw_all := lw_g (lw_at lw_m20 85 rfl) rfl
theorem q5039 : (Jvm.Cond.instanceMethod ({ cls := "WasteHouse$HazardRules", name := "table", desc := "(II)I" } : Jvm.MethodName)) ∈ lw_all := lw_g (lw_at lw_m20 87 rfl) rfl
theorem q5040 : (Jvm.Cond.selects "WasteHouse$HazardRules" ({ cls := "WasteHouse$HazardRules", name := "table", desc := "(II)I" } : Jvm.MethodName) ({ cls := "WasteHouse$HazardRules", name := "table", desc := "(II)I" } : Jvm.MethodName)) ∈ lw_all := lw_g (lw_at lw_m20 88 rfl) rfl
theorem q5041 : (Jvm.Cond.code ({ cls := "WasteHouse$HazardRules", name := "table", desc := "(II)I" } : Jvm.MethodName) prog_19_method_39_code (3 : Nat) (Option.some Jvm.ClassFile.FieldType.int)) ∈ lw_all := lw_g (lw_at lw_m20 89 rfl) rfl
theorem q5042 : (Jvm.Cond.classLink "WasteHouse$HazardRules" (276 : Nat) "java/lang/ArrayIndexOutOfBoundsException") ∈ lw_all := lw_g (lw_at lw_m20 90 rfl) rfl
theorem q5043 : (Jvm.Cond.stringRef "WasteHouse$HazardRules" (278 : Nat) "no such item") ∈ lw_tbl := lw_at lw_m20 91 rfl
theorem q5044 : (Jvm.Cond.methodLink "WasteHouse$HazardRules" (280 : Nat) ({ cls := "java/lang/ArrayIndexOutOfBoundsException", name := "<init>", desc := "(Ljava/lang/String;)V" } : Jvm.MethodName)) ∈ lw_all := lw_g (lw_at lw_m20 92 rfl) rfl
theorem q5046 : (Jvm.Cond.instanceMethod ({ cls := "WasteHouse$HazardRules", name := "write", desc := "(I)I" } : Jvm.MethodName)) ∈ lw_all := lw_g (lw_at lw_m20 94 rfl) rfl
theorem q5047 : (Jvm.Cond.selects "WasteHouse$HazardRules" ({ cls := "WasteHouse$HazardRules", name := "write", desc := "(I)I" } : Jvm.MethodName) ({ cls := "WasteHouse$HazardRules", name := "write", desc := "(I)I" } : Jvm.MethodName)) ∈ lw_all := lw_g (lw_at lw_m20 95 rfl) rfl
theorem q5048 : (Jvm.Cond.code ({ cls := "WasteHouse$HazardRules", name := "write", desc := "(I)I" } : Jvm.MethodName) prog_19_method_40_code (5 : Nat) (Option.some Jvm.ClassFile.FieldType.int)) ∈ lw_all := lw_g (lw_at lw_m20 96 rfl) rfl
theorem q9641 : (Jvm.Cond.castable "WasteHouse$HazardRules" "java/lang/Object") ∈ lw_tbl := lw_at lw_m39 129 rfl
theorem in_X12 : ∀ w ∈ wsX120, w ∈ lw_all := lw_in wsX120 [1098, 1100, 1102, 1104, 1106, 1108, 1110, 1112, 1114, 1116, 1118, 1120, 1122, 1124, 1126, 1128, 1130, 1132, 1134] (by decide +kernel) (by decide +kernel)
