/-! WasteHouse -/
set_option maxRecDepth 100000
def RX1 : String := "WasteHouse"
def TX1 : u_T := fun k => match k with
  | 0 => ("WasteHouse", "chain", "LWasteHouse$TicketChain;", true)
  | 1 => ("WasteHouse", "line", "LWasteHouse$ShareSolve;", true)
  | 2 => ("WasteHouse", "rules", "LWasteHouse$HazardRules;", true)
  | 3 => ("WasteHouse", "rounds", "LWasteHouse$RoundColumns;", true)
  | 4 => ("WasteHouse", "store", "LWasteHouse$BarredStores;", true)
  | 5 => ("WasteHouse", "graph", "LWasteHouse$PartGraphs;", true)
  | 6 => ("WasteHouse", "apart", "LWasteHouse$ApartCost;", true)
  | 7 => ("WasteHouse", "samples", "LWasteHouse$PurityOdds;", true)
  | 8 => ("WasteHouse", "codes", "LWasteHouse$DepositCodes;", true)
  | 9 => ("WasteHouse", "house", "LWasteHouse$HouseRoom;", true)
  | 10 => ("WasteHouse", "rooms", "Ljava/util/ArrayList;", true)
  | 11 => ("WasteHouse", "tape", "[B", true)
  | 12 => ("WasteHouse", "size", "I", false)
  | 13 => ("WasteHouse", "product", "[B", true)
  | 14 => ("WasteHouse", "produced", "I", false)
  | 15 => ("WasteHouse", "answers", "[J", true)
  | 16 => ("WasteHouse", "answered", "I", false)
  | 17 => ("WasteHouse", "wrongWord", "I", false)
  | 18 => ("WasteHouse", "froms", "[I", true)
  | 19 => ("WasteHouse", "tos", "[I", true)
  | 20 => ("WasteHouse", "words", "I", false)
  | 21 => ("WasteHouse", "lineEnd", "I", false)
  | _ => ("WasteHouse", "numbers", "[J", true)
def tyX1 : Nat → FieldType := fun k => match k with
  | 0 => .object "WasteHouse$TicketChain"
  | 1 => .object "WasteHouse$ShareSolve"
  | 2 => .object "WasteHouse$HazardRules"
  | 3 => .object "WasteHouse$RoundColumns"
  | 4 => .object "WasteHouse$BarredStores"
  | 5 => .object "WasteHouse$PartGraphs"
  | 6 => .object "WasteHouse$ApartCost"
  | 7 => .object "WasteHouse$PurityOdds"
  | 8 => .object "WasteHouse$DepositCodes"
  | 9 => .object "WasteHouse$HouseRoom"
  | 10 => .object "java/util/ArrayList"
  | 11 => .array .byte
  | 12 => .int
  | 13 => .array .byte
  | 14 => .int
  | 15 => .array .long
  | 16 => .int
  | 17 => .int
  | 18 => .array .int
  | 19 => .array .int
  | 20 => .int
  | 21 => .int
  | _ => .array .long
abbrev wsX10 : List Cond := u_ws RX1 TX1 23
set_option maxRecDepth 100000 in
theorem nmX1 : ∀ a, a < 23 → ∀ b, b < 23 → a ≠ b → (TX1 a).2.1 ≠ (TX1 b).2.1 := by decide +kernel
set_option maxRecDepth 100000 in
theorem tyX1_ok : ∀ k, k < 23 → parseFieldDescriptor (TX1 k).2.2.1 = some (tyX1 k) := by decide +kernel
abbrev cX1_init : ByteArray := prog_1_method_1_code
def yX1_init : MethodName := ⟨RX1, "<init>", "()V"⟩
def dkwX1_init_17 : List UInt8 := [180, 0, 88, 42, 180, 0, 81, 182, 0, 123, 87, 177]
abbrev dktX1_init_17 : List UInt8 := dkwX1_init_17 ++ []
def dkwX1_init_16 : List UInt8 := [182, 0, 123, 87, 42, 180, 0, 88, 187, 0, 162, 89, 42, 180, 0, 72, 183, 0, 164, 182, 0, 123, 87, 42]
abbrev dktX1_init_16 : List UInt8 := dkwX1_init_16 ++ dktX1_init_17
def dkwX1_init_15 : List UInt8 := [183, 0, 154, 182, 0, 123, 87, 42, 180, 0, 88, 187, 0, 157, 89, 42, 180, 0, 65, 183, 0, 159]
abbrev dktX1_init_15 : List UInt8 := dkwX1_init_15 ++ dktX1_init_16
def dkwX1_init_14 : List UInt8 := [180, 0, 49, 183, 0, 149, 182, 0, 123, 87, 42, 180, 0, 88, 187, 0, 152, 89, 42, 180, 0, 56]
abbrev dktX1_init_14 : List UInt8 := dkwX1_init_14 ++ dktX1_init_15
def dkwX1_init_13 : List UInt8 := [187, 0, 142, 89, 42, 180, 0, 42, 183, 0, 144, 182, 0, 123, 87, 42, 180, 0, 88, 187, 0, 147, 89, 42]
abbrev dktX1_init_13 : List UInt8 := dkwX1_init_13 ++ dktX1_init_14
def dkwX1_init_12 : List UInt8 := [180, 0, 88, 187, 0, 137, 89, 42, 180, 0, 35, 183, 0, 139, 182, 0, 123, 87, 42, 180, 0, 88]
abbrev dktX1_init_12 : List UInt8 := dkwX1_init_12 ++ dktX1_init_13
def dkwX1_init_11 : List UInt8 := [182, 0, 123, 87, 42, 180, 0, 88, 187, 0, 132, 89, 42, 180, 0, 28, 183, 0, 134, 182, 0, 123, 87, 42]
abbrev dktX1_init_11 : List UInt8 := dkwX1_init_11 ++ dktX1_init_12
def dkwX1_init_10 : List UInt8 := [183, 0, 120, 182, 0, 123, 87, 42, 180, 0, 88, 187, 0, 127, 89, 42, 180, 0, 21, 183, 0, 129]
abbrev dktX1_init_10 : List UInt8 := dkwX1_init_10 ++ dktX1_init_11
def dkwX1_init_9 : List UInt8 := [181, 0, 112, 42, 16, 6, 188, 11, 181, 0, 115, 42, 180, 0, 88, 187, 0, 118, 89, 42, 180, 0, 10]
abbrev dktX1_init_9 : List UInt8 := dkwX1_init_9 ++ dktX1_init_10
def dkwX1_init_8 : List UInt8 := [181, 0, 100, 42, 2, 181, 0, 104, 42, 17, 15, 160, 188, 10, 181, 0, 108, 42, 17, 15, 160, 188, 10]
abbrev dktX1_init_8 : List UInt8 := dkwX1_init_8 ++ dktX1_init_9
def dkwX1_init_7 : List UInt8 := [42, 17, 31, 64, 188, 8, 181, 0, 92, 42, 18, 96, 188, 8, 181, 0, 97, 42, 17, 15, 160, 188, 11]
abbrev dktX1_init_7 : List UInt8 := dkwX1_init_7 ++ dktX1_init_8
def dkwX1_init_6 : List UInt8 := [180, 0, 65, 42, 180, 0, 72, 183, 0, 78, 181, 0, 81, 42, 187, 0, 85, 89, 183, 0, 87, 181, 0, 88]
abbrev dktX1_init_6 : List UInt8 := dkwX1_init_6 ++ dktX1_init_7
def dkwX1_init_5 : List UInt8 := [180, 0, 21, 42, 180, 0, 28, 42, 180, 0, 35, 42, 180, 0, 42, 42, 180, 0, 49, 42, 180, 0, 56, 42]
abbrev dktX1_init_5 : List UInt8 := dkwX1_init_5 ++ dktX1_init_6
def dkwX1_init_4 : List UInt8 := [181, 0, 65, 42, 187, 0, 69, 89, 183, 0, 71, 181, 0, 72, 42, 187, 0, 76, 89, 42, 180, 0, 10, 42]
abbrev dktX1_init_4 : List UInt8 := dkwX1_init_4 ++ dktX1_init_5
def dkwX1_init_3 : List UInt8 := [181, 0, 49, 42, 187, 0, 53, 89, 183, 0, 55, 181, 0, 56, 42, 187, 0, 60, 89, 10, 183, 0, 62]
abbrev dktX1_init_3 : List UInt8 := dkwX1_init_3 ++ dktX1_init_4
def dkwX1_init_2 : List UInt8 := [181, 0, 35, 42, 187, 0, 39, 89, 183, 0, 41, 181, 0, 42, 42, 187, 0, 46, 89, 183, 0, 48]
abbrev dktX1_init_2 : List UInt8 := dkwX1_init_2 ++ dktX1_init_3
def dkwX1_init_1 : List UInt8 := [181, 0, 21, 42, 187, 0, 25, 89, 183, 0, 27, 181, 0, 28, 42, 187, 0, 32, 89, 183, 0, 34]
abbrev dktX1_init_1 : List UInt8 := dkwX1_init_1 ++ dktX1_init_2
def dkwX1_init_0 : List UInt8 := [42, 183, 0, 1, 42, 187, 0, 7, 89, 183, 0, 9, 181, 0, 10, 42, 187, 0, 16, 89, 6, 183, 0, 18]
abbrev dktX1_init_0 : List UInt8 := dkwX1_init_0 ++ dktX1_init_1
theorem dksX1_init_0 : cX1_init.data.toList.drop 0 = dktX1_init_0 := by decide +kernel
theorem dksX1_init_1 : cX1_init.data.toList.drop 24 = dktX1_init_1 := dk_seg dksX1_init_0 24 rfl rfl
theorem dksX1_init_2 : cX1_init.data.toList.drop 46 = dktX1_init_2 := dk_seg dksX1_init_1 22 rfl rfl
theorem dksX1_init_3 : cX1_init.data.toList.drop 68 = dktX1_init_3 := dk_seg dksX1_init_2 22 rfl rfl
theorem dksX1_init_4 : cX1_init.data.toList.drop 91 = dktX1_init_4 := dk_seg dksX1_init_3 23 rfl rfl
theorem dksX1_init_5 : cX1_init.data.toList.drop 115 = dktX1_init_5 := dk_seg dksX1_init_4 24 rfl rfl
theorem dksX1_init_6 : cX1_init.data.toList.drop 139 = dktX1_init_6 := dk_seg dksX1_init_5 24 rfl rfl
theorem dksX1_init_7 : cX1_init.data.toList.drop 163 = dktX1_init_7 := dk_seg dksX1_init_6 24 rfl rfl
theorem dksX1_init_8 : cX1_init.data.toList.drop 186 = dktX1_init_8 := dk_seg dksX1_init_7 23 rfl rfl
theorem dksX1_init_9 : cX1_init.data.toList.drop 209 = dktX1_init_9 := dk_seg dksX1_init_8 23 rfl rfl
theorem dksX1_init_10 : cX1_init.data.toList.drop 232 = dktX1_init_10 := dk_seg dksX1_init_9 23 rfl rfl
theorem dksX1_init_11 : cX1_init.data.toList.drop 254 = dktX1_init_11 := dk_seg dksX1_init_10 22 rfl rfl
theorem dksX1_init_12 : cX1_init.data.toList.drop 278 = dktX1_init_12 := dk_seg dksX1_init_11 24 rfl rfl
theorem dksX1_init_13 : cX1_init.data.toList.drop 300 = dktX1_init_13 := dk_seg dksX1_init_12 22 rfl rfl
theorem dksX1_init_14 : cX1_init.data.toList.drop 324 = dktX1_init_14 := dk_seg dksX1_init_13 24 rfl rfl
theorem dksX1_init_15 : cX1_init.data.toList.drop 346 = dktX1_init_15 := dk_seg dksX1_init_14 22 rfl rfl
theorem dksX1_init_16 : cX1_init.data.toList.drop 368 = dktX1_init_16 := dk_seg dksX1_init_15 22 rfl rfl
theorem dksX1_init_17 : cX1_init.data.toList.drop 392 = dktX1_init_17 := dk_seg dksX1_init_16 24 rfl rfl
theorem dX1_init_0 : decode cX1_init 0 = .ok (.aload_n 0, 1) := dk_42 (dk_at dksX1_init_0 0 rfl rfl)
theorem dX1_init_1 : decode cX1_init 1 = .ok (.invokespecial 1, 3) := dk_183 0 1 (dk_at dksX1_init_0 1 rfl rfl)
theorem dX1_init_4 : decode cX1_init 4 = .ok (.aload_n 0, 1) := dk_42 (dk_at dksX1_init_0 4 rfl rfl)
theorem dX1_init_5 : decode cX1_init 5 = .ok (.new 7, 3) := dk_187 0 7 (dk_at dksX1_init_0 5 rfl rfl)
theorem dX1_init_8 : decode cX1_init 8 = .ok (.dup, 1) := dk_89 (dk_at dksX1_init_0 8 rfl rfl)
theorem dX1_init_9 : decode cX1_init 9 = .ok (.invokespecial 9, 3) := dk_183 0 9 (dk_at dksX1_init_0 9 rfl rfl)
theorem dX1_init_12 : decode cX1_init 12 = .ok (.putfield 10, 3) := dk_181 0 10 (dk_at dksX1_init_0 12 rfl rfl)
theorem dX1_init_15 : decode cX1_init 15 = .ok (.aload_n 0, 1) := dk_42 (dk_at dksX1_init_0 15 rfl rfl)
theorem dX1_init_16 : decode cX1_init 16 = .ok (.new 16, 3) := dk_187 0 16 (dk_at dksX1_init_0 16 rfl rfl)
theorem dX1_init_19 : decode cX1_init 19 = .ok (.dup, 1) := dk_89 (dk_at dksX1_init_0 19 rfl rfl)
theorem dX1_init_20 : decode cX1_init 20 = .ok (.iconst 3, 1) := dk_6 (dk_at dksX1_init_0 20 rfl rfl)
theorem dX1_init_21 : decode cX1_init 21 = .ok (.invokespecial 18, 3) := dk_183 0 18 (dk_at dksX1_init_0 21 rfl rfl)
theorem dX1_init_24 : decode cX1_init 24 = .ok (.putfield 21, 3) := dk_181 0 21 (dk_at dksX1_init_1 0 rfl rfl)
theorem dX1_init_27 : decode cX1_init 27 = .ok (.aload_n 0, 1) := dk_42 (dk_at dksX1_init_1 3 rfl rfl)
theorem dX1_init_28 : decode cX1_init 28 = .ok (.new 25, 3) := dk_187 0 25 (dk_at dksX1_init_1 4 rfl rfl)
theorem dX1_init_31 : decode cX1_init 31 = .ok (.dup, 1) := dk_89 (dk_at dksX1_init_1 7 rfl rfl)
theorem dX1_init_32 : decode cX1_init 32 = .ok (.invokespecial 27, 3) := dk_183 0 27 (dk_at dksX1_init_1 8 rfl rfl)
theorem dX1_init_35 : decode cX1_init 35 = .ok (.putfield 28, 3) := dk_181 0 28 (dk_at dksX1_init_1 11 rfl rfl)
theorem dX1_init_38 : decode cX1_init 38 = .ok (.aload_n 0, 1) := dk_42 (dk_at dksX1_init_1 14 rfl rfl)
theorem dX1_init_39 : decode cX1_init 39 = .ok (.new 32, 3) := dk_187 0 32 (dk_at dksX1_init_1 15 rfl rfl)
theorem dX1_init_42 : decode cX1_init 42 = .ok (.dup, 1) := dk_89 (dk_at dksX1_init_1 18 rfl rfl)
theorem dX1_init_43 : decode cX1_init 43 = .ok (.invokespecial 34, 3) := dk_183 0 34 (dk_at dksX1_init_1 19 rfl rfl)
theorem dX1_init_46 : decode cX1_init 46 = .ok (.putfield 35, 3) := dk_181 0 35 (dk_at dksX1_init_2 0 rfl rfl)
theorem dX1_init_49 : decode cX1_init 49 = .ok (.aload_n 0, 1) := dk_42 (dk_at dksX1_init_2 3 rfl rfl)
theorem dX1_init_50 : decode cX1_init 50 = .ok (.new 39, 3) := dk_187 0 39 (dk_at dksX1_init_2 4 rfl rfl)
theorem dX1_init_53 : decode cX1_init 53 = .ok (.dup, 1) := dk_89 (dk_at dksX1_init_2 7 rfl rfl)
theorem dX1_init_54 : decode cX1_init 54 = .ok (.invokespecial 41, 3) := dk_183 0 41 (dk_at dksX1_init_2 8 rfl rfl)
theorem dX1_init_57 : decode cX1_init 57 = .ok (.putfield 42, 3) := dk_181 0 42 (dk_at dksX1_init_2 11 rfl rfl)
theorem dX1_init_60 : decode cX1_init 60 = .ok (.aload_n 0, 1) := dk_42 (dk_at dksX1_init_2 14 rfl rfl)
theorem dX1_init_61 : decode cX1_init 61 = .ok (.new 46, 3) := dk_187 0 46 (dk_at dksX1_init_2 15 rfl rfl)
theorem dX1_init_64 : decode cX1_init 64 = .ok (.dup, 1) := dk_89 (dk_at dksX1_init_2 18 rfl rfl)
theorem dX1_init_65 : decode cX1_init 65 = .ok (.invokespecial 48, 3) := dk_183 0 48 (dk_at dksX1_init_2 19 rfl rfl)
theorem dX1_init_68 : decode cX1_init 68 = .ok (.putfield 49, 3) := dk_181 0 49 (dk_at dksX1_init_3 0 rfl rfl)
theorem dX1_init_71 : decode cX1_init 71 = .ok (.aload_n 0, 1) := dk_42 (dk_at dksX1_init_3 3 rfl rfl)
theorem dX1_init_72 : decode cX1_init 72 = .ok (.new 53, 3) := dk_187 0 53 (dk_at dksX1_init_3 4 rfl rfl)
theorem dX1_init_75 : decode cX1_init 75 = .ok (.dup, 1) := dk_89 (dk_at dksX1_init_3 7 rfl rfl)
theorem dX1_init_76 : decode cX1_init 76 = .ok (.invokespecial 55, 3) := dk_183 0 55 (dk_at dksX1_init_3 8 rfl rfl)
theorem dX1_init_79 : decode cX1_init 79 = .ok (.putfield 56, 3) := dk_181 0 56 (dk_at dksX1_init_3 11 rfl rfl)
theorem dX1_init_82 : decode cX1_init 82 = .ok (.aload_n 0, 1) := dk_42 (dk_at dksX1_init_3 14 rfl rfl)
theorem dX1_init_83 : decode cX1_init 83 = .ok (.new 60, 3) := dk_187 0 60 (dk_at dksX1_init_3 15 rfl rfl)
theorem dX1_init_86 : decode cX1_init 86 = .ok (.dup, 1) := dk_89 (dk_at dksX1_init_3 18 rfl rfl)
theorem dX1_init_87 : decode cX1_init 87 = .ok (.lconst 1, 1) := dk_10 (dk_at dksX1_init_3 19 rfl rfl)
theorem dX1_init_88 : decode cX1_init 88 = .ok (.invokespecial 62, 3) := dk_183 0 62 (dk_at dksX1_init_3 20 rfl rfl)
theorem dX1_init_91 : decode cX1_init 91 = .ok (.putfield 65, 3) := dk_181 0 65 (dk_at dksX1_init_4 0 rfl rfl)
theorem dX1_init_94 : decode cX1_init 94 = .ok (.aload_n 0, 1) := dk_42 (dk_at dksX1_init_4 3 rfl rfl)
theorem dX1_init_95 : decode cX1_init 95 = .ok (.new 69, 3) := dk_187 0 69 (dk_at dksX1_init_4 4 rfl rfl)
theorem dX1_init_98 : decode cX1_init 98 = .ok (.dup, 1) := dk_89 (dk_at dksX1_init_4 7 rfl rfl)
theorem dX1_init_99 : decode cX1_init 99 = .ok (.invokespecial 71, 3) := dk_183 0 71 (dk_at dksX1_init_4 8 rfl rfl)
theorem dX1_init_102 : decode cX1_init 102 = .ok (.putfield 72, 3) := dk_181 0 72 (dk_at dksX1_init_4 11 rfl rfl)
theorem dX1_init_105 : decode cX1_init 105 = .ok (.aload_n 0, 1) := dk_42 (dk_at dksX1_init_4 14 rfl rfl)
theorem dX1_init_106 : decode cX1_init 106 = .ok (.new 76, 3) := dk_187 0 76 (dk_at dksX1_init_4 15 rfl rfl)
theorem dX1_init_109 : decode cX1_init 109 = .ok (.dup, 1) := dk_89 (dk_at dksX1_init_4 18 rfl rfl)
theorem dX1_init_110 : decode cX1_init 110 = .ok (.aload_n 0, 1) := dk_42 (dk_at dksX1_init_4 19 rfl rfl)
theorem dX1_init_111 : decode cX1_init 111 = .ok (.getfield 10, 3) := dk_180 0 10 (dk_at dksX1_init_4 20 rfl rfl)
theorem dX1_init_114 : decode cX1_init 114 = .ok (.aload_n 0, 1) := dk_42 (dk_at dksX1_init_4 23 rfl rfl)
theorem dX1_init_115 : decode cX1_init 115 = .ok (.getfield 21, 3) := dk_180 0 21 (dk_at dksX1_init_5 0 rfl rfl)
theorem dX1_init_118 : decode cX1_init 118 = .ok (.aload_n 0, 1) := dk_42 (dk_at dksX1_init_5 3 rfl rfl)
theorem dX1_init_119 : decode cX1_init 119 = .ok (.getfield 28, 3) := dk_180 0 28 (dk_at dksX1_init_5 4 rfl rfl)
theorem dX1_init_122 : decode cX1_init 122 = .ok (.aload_n 0, 1) := dk_42 (dk_at dksX1_init_5 7 rfl rfl)
theorem dX1_init_123 : decode cX1_init 123 = .ok (.getfield 35, 3) := dk_180 0 35 (dk_at dksX1_init_5 8 rfl rfl)
theorem dX1_init_126 : decode cX1_init 126 = .ok (.aload_n 0, 1) := dk_42 (dk_at dksX1_init_5 11 rfl rfl)
theorem dX1_init_127 : decode cX1_init 127 = .ok (.getfield 42, 3) := dk_180 0 42 (dk_at dksX1_init_5 12 rfl rfl)
theorem dX1_init_130 : decode cX1_init 130 = .ok (.aload_n 0, 1) := dk_42 (dk_at dksX1_init_5 15 rfl rfl)
theorem dX1_init_131 : decode cX1_init 131 = .ok (.getfield 49, 3) := dk_180 0 49 (dk_at dksX1_init_5 16 rfl rfl)
theorem dX1_init_134 : decode cX1_init 134 = .ok (.aload_n 0, 1) := dk_42 (dk_at dksX1_init_5 19 rfl rfl)
theorem dX1_init_135 : decode cX1_init 135 = .ok (.getfield 56, 3) := dk_180 0 56 (dk_at dksX1_init_5 20 rfl rfl)
theorem dX1_init_138 : decode cX1_init 138 = .ok (.aload_n 0, 1) := dk_42 (dk_at dksX1_init_5 23 rfl rfl)
theorem dX1_init_139 : decode cX1_init 139 = .ok (.getfield 65, 3) := dk_180 0 65 (dk_at dksX1_init_6 0 rfl rfl)
theorem dX1_init_142 : decode cX1_init 142 = .ok (.aload_n 0, 1) := dk_42 (dk_at dksX1_init_6 3 rfl rfl)
theorem dX1_init_143 : decode cX1_init 143 = .ok (.getfield 72, 3) := dk_180 0 72 (dk_at dksX1_init_6 4 rfl rfl)
theorem dX1_init_146 : decode cX1_init 146 = .ok (.invokespecial 78, 3) := dk_183 0 78 (dk_at dksX1_init_6 7 rfl rfl)
theorem dX1_init_149 : decode cX1_init 149 = .ok (.putfield 81, 3) := dk_181 0 81 (dk_at dksX1_init_6 10 rfl rfl)
theorem dX1_init_152 : decode cX1_init 152 = .ok (.aload_n 0, 1) := dk_42 (dk_at dksX1_init_6 13 rfl rfl)
theorem dX1_init_153 : decode cX1_init 153 = .ok (.new 85, 3) := dk_187 0 85 (dk_at dksX1_init_6 14 rfl rfl)
theorem dX1_init_156 : decode cX1_init 156 = .ok (.dup, 1) := dk_89 (dk_at dksX1_init_6 17 rfl rfl)
theorem dX1_init_157 : decode cX1_init 157 = .ok (.invokespecial 87, 3) := dk_183 0 87 (dk_at dksX1_init_6 18 rfl rfl)
theorem dX1_init_160 : decode cX1_init 160 = .ok (.putfield 88, 3) := dk_181 0 88 (dk_at dksX1_init_6 21 rfl rfl)
theorem dX1_init_163 : decode cX1_init 163 = .ok (.aload_n 0, 1) := dk_42 (dk_at dksX1_init_7 0 rfl rfl)
theorem dX1_init_164 : decode cX1_init 164 = .ok (.sipush 8000, 3) := dk_17 31 64 (dk_at dksX1_init_7 1 rfl rfl)
theorem dX1_init_167 : decode cX1_init 167 = .ok (.newarray .byte, 2) := dk_188_8 (dk_at dksX1_init_7 4 rfl rfl)
theorem dX1_init_169 : decode cX1_init 169 = .ok (.putfield 92, 3) := dk_181 0 92 (dk_at dksX1_init_7 6 rfl rfl)
theorem dX1_init_172 : decode cX1_init 172 = .ok (.aload_n 0, 1) := dk_42 (dk_at dksX1_init_7 9 rfl rfl)
theorem dX1_init_173 : decode cX1_init 173 = .ok (.ldc 96, 2) := dk_18 96 (dk_at dksX1_init_7 10 rfl rfl)
theorem dX1_init_175 : decode cX1_init 175 = .ok (.newarray .byte, 2) := dk_188_8 (dk_at dksX1_init_7 12 rfl rfl)
theorem dX1_init_177 : decode cX1_init 177 = .ok (.putfield 97, 3) := dk_181 0 97 (dk_at dksX1_init_7 14 rfl rfl)
theorem dX1_init_180 : decode cX1_init 180 = .ok (.aload_n 0, 1) := dk_42 (dk_at dksX1_init_7 17 rfl rfl)
theorem dX1_init_181 : decode cX1_init 181 = .ok (.sipush 4000, 3) := dk_17 15 160 (dk_at dksX1_init_7 18 rfl rfl)
theorem dX1_init_184 : decode cX1_init 184 = .ok (.newarray .long, 2) := dk_188_11 (dk_at dksX1_init_7 21 rfl rfl)
theorem dX1_init_186 : decode cX1_init 186 = .ok (.putfield 100, 3) := dk_181 0 100 (dk_at dksX1_init_8 0 rfl rfl)
theorem dX1_init_189 : decode cX1_init 189 = .ok (.aload_n 0, 1) := dk_42 (dk_at dksX1_init_8 3 rfl rfl)
theorem dX1_init_190 : decode cX1_init 190 = .ok (.iconst (-1), 1) := dk_2 (dk_at dksX1_init_8 4 rfl rfl)
theorem dX1_init_191 : decode cX1_init 191 = .ok (.putfield 104, 3) := dk_181 0 104 (dk_at dksX1_init_8 5 rfl rfl)
theorem dX1_init_194 : decode cX1_init 194 = .ok (.aload_n 0, 1) := dk_42 (dk_at dksX1_init_8 8 rfl rfl)
theorem dX1_init_195 : decode cX1_init 195 = .ok (.sipush 4000, 3) := dk_17 15 160 (dk_at dksX1_init_8 9 rfl rfl)
theorem dX1_init_198 : decode cX1_init 198 = .ok (.newarray .int, 2) := dk_188_10 (dk_at dksX1_init_8 12 rfl rfl)
theorem dX1_init_200 : decode cX1_init 200 = .ok (.putfield 108, 3) := dk_181 0 108 (dk_at dksX1_init_8 14 rfl rfl)
theorem dX1_init_203 : decode cX1_init 203 = .ok (.aload_n 0, 1) := dk_42 (dk_at dksX1_init_8 17 rfl rfl)
theorem dX1_init_204 : decode cX1_init 204 = .ok (.sipush 4000, 3) := dk_17 15 160 (dk_at dksX1_init_8 18 rfl rfl)
theorem dX1_init_207 : decode cX1_init 207 = .ok (.newarray .int, 2) := dk_188_10 (dk_at dksX1_init_8 21 rfl rfl)
theorem dX1_init_209 : decode cX1_init 209 = .ok (.putfield 112, 3) := dk_181 0 112 (dk_at dksX1_init_9 0 rfl rfl)
theorem dX1_init_212 : decode cX1_init 212 = .ok (.aload_n 0, 1) := dk_42 (dk_at dksX1_init_9 3 rfl rfl)
theorem dX1_init_213 : decode cX1_init 213 = .ok (.bipush 6, 2) := dk_16 6 (dk_at dksX1_init_9 4 rfl rfl)
theorem dX1_init_215 : decode cX1_init 215 = .ok (.newarray .long, 2) := dk_188_11 (dk_at dksX1_init_9 6 rfl rfl)
theorem dX1_init_217 : decode cX1_init 217 = .ok (.putfield 115, 3) := dk_181 0 115 (dk_at dksX1_init_9 8 rfl rfl)
theorem dX1_init_220 : decode cX1_init 220 = .ok (.aload_n 0, 1) := dk_42 (dk_at dksX1_init_9 11 rfl rfl)
theorem dX1_init_221 : decode cX1_init 221 = .ok (.getfield 88, 3) := dk_180 0 88 (dk_at dksX1_init_9 12 rfl rfl)
theorem dX1_init_224 : decode cX1_init 224 = .ok (.new 118, 3) := dk_187 0 118 (dk_at dksX1_init_9 15 rfl rfl)
theorem dX1_init_227 : decode cX1_init 227 = .ok (.dup, 1) := dk_89 (dk_at dksX1_init_9 18 rfl rfl)
theorem dX1_init_228 : decode cX1_init 228 = .ok (.aload_n 0, 1) := dk_42 (dk_at dksX1_init_9 19 rfl rfl)
theorem dX1_init_229 : decode cX1_init 229 = .ok (.getfield 10, 3) := dk_180 0 10 (dk_at dksX1_init_9 20 rfl rfl)
theorem dX1_init_232 : decode cX1_init 232 = .ok (.invokespecial 120, 3) := dk_183 0 120 (dk_at dksX1_init_10 0 rfl rfl)
theorem dX1_init_235 : decode cX1_init 235 = .ok (.invokevirtual 123, 3) := dk_182 0 123 (dk_at dksX1_init_10 3 rfl rfl)
theorem dX1_init_238 : decode cX1_init 238 = .ok (.pop, 1) := dk_87 (dk_at dksX1_init_10 6 rfl rfl)
theorem dX1_init_239 : decode cX1_init 239 = .ok (.aload_n 0, 1) := dk_42 (dk_at dksX1_init_10 7 rfl rfl)
theorem dX1_init_240 : decode cX1_init 240 = .ok (.getfield 88, 3) := dk_180 0 88 (dk_at dksX1_init_10 8 rfl rfl)
theorem dX1_init_243 : decode cX1_init 243 = .ok (.new 127, 3) := dk_187 0 127 (dk_at dksX1_init_10 11 rfl rfl)
theorem dX1_init_246 : decode cX1_init 246 = .ok (.dup, 1) := dk_89 (dk_at dksX1_init_10 14 rfl rfl)
theorem dX1_init_247 : decode cX1_init 247 = .ok (.aload_n 0, 1) := dk_42 (dk_at dksX1_init_10 15 rfl rfl)
theorem dX1_init_248 : decode cX1_init 248 = .ok (.getfield 21, 3) := dk_180 0 21 (dk_at dksX1_init_10 16 rfl rfl)
theorem dX1_init_251 : decode cX1_init 251 = .ok (.invokespecial 129, 3) := dk_183 0 129 (dk_at dksX1_init_10 19 rfl rfl)
theorem dX1_init_254 : decode cX1_init 254 = .ok (.invokevirtual 123, 3) := dk_182 0 123 (dk_at dksX1_init_11 0 rfl rfl)
theorem dX1_init_257 : decode cX1_init 257 = .ok (.pop, 1) := dk_87 (dk_at dksX1_init_11 3 rfl rfl)
theorem dX1_init_258 : decode cX1_init 258 = .ok (.aload_n 0, 1) := dk_42 (dk_at dksX1_init_11 4 rfl rfl)
theorem dX1_init_259 : decode cX1_init 259 = .ok (.getfield 88, 3) := dk_180 0 88 (dk_at dksX1_init_11 5 rfl rfl)
theorem dX1_init_262 : decode cX1_init 262 = .ok (.new 132, 3) := dk_187 0 132 (dk_at dksX1_init_11 8 rfl rfl)
theorem dX1_init_265 : decode cX1_init 265 = .ok (.dup, 1) := dk_89 (dk_at dksX1_init_11 11 rfl rfl)
theorem dX1_init_266 : decode cX1_init 266 = .ok (.aload_n 0, 1) := dk_42 (dk_at dksX1_init_11 12 rfl rfl)
theorem dX1_init_267 : decode cX1_init 267 = .ok (.getfield 28, 3) := dk_180 0 28 (dk_at dksX1_init_11 13 rfl rfl)
theorem dX1_init_270 : decode cX1_init 270 = .ok (.invokespecial 134, 3) := dk_183 0 134 (dk_at dksX1_init_11 16 rfl rfl)
theorem dX1_init_273 : decode cX1_init 273 = .ok (.invokevirtual 123, 3) := dk_182 0 123 (dk_at dksX1_init_11 19 rfl rfl)
theorem dX1_init_276 : decode cX1_init 276 = .ok (.pop, 1) := dk_87 (dk_at dksX1_init_11 22 rfl rfl)
theorem dX1_init_277 : decode cX1_init 277 = .ok (.aload_n 0, 1) := dk_42 (dk_at dksX1_init_11 23 rfl rfl)
theorem dX1_init_278 : decode cX1_init 278 = .ok (.getfield 88, 3) := dk_180 0 88 (dk_at dksX1_init_12 0 rfl rfl)
theorem dX1_init_281 : decode cX1_init 281 = .ok (.new 137, 3) := dk_187 0 137 (dk_at dksX1_init_12 3 rfl rfl)
theorem dX1_init_284 : decode cX1_init 284 = .ok (.dup, 1) := dk_89 (dk_at dksX1_init_12 6 rfl rfl)
theorem dX1_init_285 : decode cX1_init 285 = .ok (.aload_n 0, 1) := dk_42 (dk_at dksX1_init_12 7 rfl rfl)
theorem dX1_init_286 : decode cX1_init 286 = .ok (.getfield 35, 3) := dk_180 0 35 (dk_at dksX1_init_12 8 rfl rfl)
theorem dX1_init_289 : decode cX1_init 289 = .ok (.invokespecial 139, 3) := dk_183 0 139 (dk_at dksX1_init_12 11 rfl rfl)
theorem dX1_init_292 : decode cX1_init 292 = .ok (.invokevirtual 123, 3) := dk_182 0 123 (dk_at dksX1_init_12 14 rfl rfl)
theorem dX1_init_295 : decode cX1_init 295 = .ok (.pop, 1) := dk_87 (dk_at dksX1_init_12 17 rfl rfl)
theorem dX1_init_296 : decode cX1_init 296 = .ok (.aload_n 0, 1) := dk_42 (dk_at dksX1_init_12 18 rfl rfl)
theorem dX1_init_297 : decode cX1_init 297 = .ok (.getfield 88, 3) := dk_180 0 88 (dk_at dksX1_init_12 19 rfl rfl)
theorem dX1_init_300 : decode cX1_init 300 = .ok (.new 142, 3) := dk_187 0 142 (dk_at dksX1_init_13 0 rfl rfl)
theorem dX1_init_303 : decode cX1_init 303 = .ok (.dup, 1) := dk_89 (dk_at dksX1_init_13 3 rfl rfl)
theorem dX1_init_304 : decode cX1_init 304 = .ok (.aload_n 0, 1) := dk_42 (dk_at dksX1_init_13 4 rfl rfl)
theorem dX1_init_305 : decode cX1_init 305 = .ok (.getfield 42, 3) := dk_180 0 42 (dk_at dksX1_init_13 5 rfl rfl)
theorem dX1_init_308 : decode cX1_init 308 = .ok (.invokespecial 144, 3) := dk_183 0 144 (dk_at dksX1_init_13 8 rfl rfl)
theorem dX1_init_311 : decode cX1_init 311 = .ok (.invokevirtual 123, 3) := dk_182 0 123 (dk_at dksX1_init_13 11 rfl rfl)
theorem dX1_init_314 : decode cX1_init 314 = .ok (.pop, 1) := dk_87 (dk_at dksX1_init_13 14 rfl rfl)
theorem dX1_init_315 : decode cX1_init 315 = .ok (.aload_n 0, 1) := dk_42 (dk_at dksX1_init_13 15 rfl rfl)
theorem dX1_init_316 : decode cX1_init 316 = .ok (.getfield 88, 3) := dk_180 0 88 (dk_at dksX1_init_13 16 rfl rfl)
theorem dX1_init_319 : decode cX1_init 319 = .ok (.new 147, 3) := dk_187 0 147 (dk_at dksX1_init_13 19 rfl rfl)
theorem dX1_init_322 : decode cX1_init 322 = .ok (.dup, 1) := dk_89 (dk_at dksX1_init_13 22 rfl rfl)
theorem dX1_init_323 : decode cX1_init 323 = .ok (.aload_n 0, 1) := dk_42 (dk_at dksX1_init_13 23 rfl rfl)
theorem dX1_init_324 : decode cX1_init 324 = .ok (.getfield 49, 3) := dk_180 0 49 (dk_at dksX1_init_14 0 rfl rfl)
theorem dX1_init_327 : decode cX1_init 327 = .ok (.invokespecial 149, 3) := dk_183 0 149 (dk_at dksX1_init_14 3 rfl rfl)
theorem dX1_init_330 : decode cX1_init 330 = .ok (.invokevirtual 123, 3) := dk_182 0 123 (dk_at dksX1_init_14 6 rfl rfl)
theorem dX1_init_333 : decode cX1_init 333 = .ok (.pop, 1) := dk_87 (dk_at dksX1_init_14 9 rfl rfl)
theorem dX1_init_334 : decode cX1_init 334 = .ok (.aload_n 0, 1) := dk_42 (dk_at dksX1_init_14 10 rfl rfl)
theorem dX1_init_335 : decode cX1_init 335 = .ok (.getfield 88, 3) := dk_180 0 88 (dk_at dksX1_init_14 11 rfl rfl)
theorem dX1_init_338 : decode cX1_init 338 = .ok (.new 152, 3) := dk_187 0 152 (dk_at dksX1_init_14 14 rfl rfl)
theorem dX1_init_341 : decode cX1_init 341 = .ok (.dup, 1) := dk_89 (dk_at dksX1_init_14 17 rfl rfl)
theorem dX1_init_342 : decode cX1_init 342 = .ok (.aload_n 0, 1) := dk_42 (dk_at dksX1_init_14 18 rfl rfl)
theorem dX1_init_343 : decode cX1_init 343 = .ok (.getfield 56, 3) := dk_180 0 56 (dk_at dksX1_init_14 19 rfl rfl)
theorem dX1_init_346 : decode cX1_init 346 = .ok (.invokespecial 154, 3) := dk_183 0 154 (dk_at dksX1_init_15 0 rfl rfl)
theorem dX1_init_349 : decode cX1_init 349 = .ok (.invokevirtual 123, 3) := dk_182 0 123 (dk_at dksX1_init_15 3 rfl rfl)
theorem dX1_init_352 : decode cX1_init 352 = .ok (.pop, 1) := dk_87 (dk_at dksX1_init_15 6 rfl rfl)
theorem dX1_init_353 : decode cX1_init 353 = .ok (.aload_n 0, 1) := dk_42 (dk_at dksX1_init_15 7 rfl rfl)
theorem dX1_init_354 : decode cX1_init 354 = .ok (.getfield 88, 3) := dk_180 0 88 (dk_at dksX1_init_15 8 rfl rfl)
theorem dX1_init_357 : decode cX1_init 357 = .ok (.new 157, 3) := dk_187 0 157 (dk_at dksX1_init_15 11 rfl rfl)
theorem dX1_init_360 : decode cX1_init 360 = .ok (.dup, 1) := dk_89 (dk_at dksX1_init_15 14 rfl rfl)
theorem dX1_init_361 : decode cX1_init 361 = .ok (.aload_n 0, 1) := dk_42 (dk_at dksX1_init_15 15 rfl rfl)
theorem dX1_init_362 : decode cX1_init 362 = .ok (.getfield 65, 3) := dk_180 0 65 (dk_at dksX1_init_15 16 rfl rfl)
theorem dX1_init_365 : decode cX1_init 365 = .ok (.invokespecial 159, 3) := dk_183 0 159 (dk_at dksX1_init_15 19 rfl rfl)
theorem dX1_init_368 : decode cX1_init 368 = .ok (.invokevirtual 123, 3) := dk_182 0 123 (dk_at dksX1_init_16 0 rfl rfl)
theorem dX1_init_371 : decode cX1_init 371 = .ok (.pop, 1) := dk_87 (dk_at dksX1_init_16 3 rfl rfl)
theorem dX1_init_372 : decode cX1_init 372 = .ok (.aload_n 0, 1) := dk_42 (dk_at dksX1_init_16 4 rfl rfl)
theorem dX1_init_373 : decode cX1_init 373 = .ok (.getfield 88, 3) := dk_180 0 88 (dk_at dksX1_init_16 5 rfl rfl)
theorem dX1_init_376 : decode cX1_init 376 = .ok (.new 162, 3) := dk_187 0 162 (dk_at dksX1_init_16 8 rfl rfl)
theorem dX1_init_379 : decode cX1_init 379 = .ok (.dup, 1) := dk_89 (dk_at dksX1_init_16 11 rfl rfl)
theorem dX1_init_380 : decode cX1_init 380 = .ok (.aload_n 0, 1) := dk_42 (dk_at dksX1_init_16 12 rfl rfl)
theorem dX1_init_381 : decode cX1_init 381 = .ok (.getfield 72, 3) := dk_180 0 72 (dk_at dksX1_init_16 13 rfl rfl)
theorem dX1_init_384 : decode cX1_init 384 = .ok (.invokespecial 164, 3) := dk_183 0 164 (dk_at dksX1_init_16 16 rfl rfl)
theorem dX1_init_387 : decode cX1_init 387 = .ok (.invokevirtual 123, 3) := dk_182 0 123 (dk_at dksX1_init_16 19 rfl rfl)
theorem dX1_init_390 : decode cX1_init 390 = .ok (.pop, 1) := dk_87 (dk_at dksX1_init_16 22 rfl rfl)
theorem dX1_init_391 : decode cX1_init 391 = .ok (.aload_n 0, 1) := dk_42 (dk_at dksX1_init_16 23 rfl rfl)
theorem dX1_init_392 : decode cX1_init 392 = .ok (.getfield 88, 3) := dk_180 0 88 (dk_at dksX1_init_17 0 rfl rfl)
theorem dX1_init_395 : decode cX1_init 395 = .ok (.aload_n 0, 1) := dk_42 (dk_at dksX1_init_17 3 rfl rfl)
theorem dX1_init_396 : decode cX1_init 396 = .ok (.getfield 81, 3) := dk_180 0 81 (dk_at dksX1_init_17 4 rfl rfl)
theorem dX1_init_399 : decode cX1_init 399 = .ok (.invokevirtual 123, 3) := dk_182 0 123 (dk_at dksX1_init_17 7 rfl rfl)
theorem dX1_init_402 : decode cX1_init 402 = .ok (.pop, 1) := dk_87 (dk_at dksX1_init_17 10 rfl rfl)
theorem dX1_init_403 : decode cX1_init 403 = .ok (.return_, 1) := dk_177 (dk_at dksX1_init_17 11 rfl rfl)
abbrev cX1_made : ByteArray := prog_1_method_6_code
def yX1_made : MethodName := ⟨RX1, "made", "()I"⟩
theorem dX1_made_0 : decode cX1_made 0 = .ok (.aload_n 0, 1) := by decide +kernel
theorem dX1_made_1 : decode cX1_made 1 = .ok (.getfield 191, 3) := by decide +kernel
theorem dX1_made_4 : decode cX1_made 4 = .ok (.ireturn, 1) := by decide +kernel
abbrev cX1_out : ByteArray := prog_1_method_7_code
def yX1_out : MethodName := ⟨RX1, "out", "(I)I"⟩
def dkwX1_out_1 : List UInt8 := [167, 0, 4, 2, 172]
abbrev dktX1_out_1 : List UInt8 := dkwX1_out_1 ++ []
def dkwX1_out_0 : List UInt8 := [27, 155, 0, 24, 27, 42, 180, 0, 191, 162, 0, 16, 42, 180, 0, 97, 27, 51, 17, 0, 255, 126]
abbrev dktX1_out_0 : List UInt8 := dkwX1_out_0 ++ dktX1_out_1
theorem dksX1_out_0 : cX1_out.data.toList.drop 0 = dktX1_out_0 := by decide +kernel
theorem dksX1_out_1 : cX1_out.data.toList.drop 22 = dktX1_out_1 := dk_seg dksX1_out_0 22 rfl rfl
theorem dX1_out_0 : decode cX1_out 0 = .ok (.iload_n 1, 1) := dk_27 (dk_at dksX1_out_0 0 rfl rfl)
theorem dX1_out_1 : decode cX1_out 1 = .ok (.ifCond .lt 24, 3) := dk_155 0 24 (dk_at dksX1_out_0 1 rfl rfl)
theorem dX1_out_4 : decode cX1_out 4 = .ok (.iload_n 1, 1) := dk_27 (dk_at dksX1_out_0 4 rfl rfl)
theorem dX1_out_5 : decode cX1_out 5 = .ok (.aload_n 0, 1) := dk_42 (dk_at dksX1_out_0 5 rfl rfl)
theorem dX1_out_6 : decode cX1_out 6 = .ok (.getfield 191, 3) := dk_180 0 191 (dk_at dksX1_out_0 6 rfl rfl)
theorem dX1_out_9 : decode cX1_out 9 = .ok (.if_icmp .ge 16, 3) := dk_162 0 16 (dk_at dksX1_out_0 9 rfl rfl)
theorem dX1_out_12 : decode cX1_out 12 = .ok (.aload_n 0, 1) := dk_42 (dk_at dksX1_out_0 12 rfl rfl)
theorem dX1_out_13 : decode cX1_out 13 = .ok (.getfield 97, 3) := dk_180 0 97 (dk_at dksX1_out_0 13 rfl rfl)
theorem dX1_out_16 : decode cX1_out 16 = .ok (.iload_n 1, 1) := dk_27 (dk_at dksX1_out_0 16 rfl rfl)
theorem dX1_out_17 : decode cX1_out 17 = .ok (.baload, 1) := dk_51 (dk_at dksX1_out_0 17 rfl rfl)
theorem dX1_out_18 : decode cX1_out 18 = .ok (.sipush 255, 3) := dk_17 0 255 (dk_at dksX1_out_0 18 rfl rfl)
theorem dX1_out_21 : decode cX1_out 21 = .ok (.iand, 1) := dk_126 (dk_at dksX1_out_0 21 rfl rfl)
theorem dX1_out_22 : decode cX1_out 22 = .ok (.goto 4, 3) := dk_167 0 4 (dk_at dksX1_out_1 0 rfl rfl)
theorem dX1_out_25 : decode cX1_out 25 = .ok (.iconst (-1), 1) := dk_2 (dk_at dksX1_out_1 3 rfl rfl)
theorem dX1_out_26 : decode cX1_out 26 = .ok (.ireturn, 1) := dk_172 (dk_at dksX1_out_1 4 rfl rfl)
abbrev cX1_run : ByteArray := prog_1_method_16_code
def yX1_run : MethodName := ⟨RX1, "run", "()I"⟩
def dkwX1_run_3 : List UInt8 := [181, 0, 104, 29, 2, 160, 0, 10, 42, 180, 0, 223, 167, 0, 5, 28, 116, 172]
abbrev dktX1_run_3 : List UInt8 := dkwX1_run_3 ++ []
def dkwX1_run_2 : List UInt8 := [42, 182, 1, 55, 167, 0, 4, 2, 62, 132, 2, 1, 167, 255, 218, 42, 3, 181, 0, 167, 42, 29]
abbrev dktX1_run_2 : List UInt8 := dkwX1_run_2 ++ dktX1_run_3
def dkwX1_run_1 : List UInt8 := [180, 0, 167, 162, 0, 36, 29, 2, 160, 0, 31, 42, 27, 182, 1, 51, 60, 42, 180, 0, 198, 158, 0, 10]
abbrev dktX1_run_1 : List UInt8 := dkwX1_run_1 ++ dktX1_run_2
def dkwX1_run_0 : List UInt8 := [42, 3, 181, 0, 191, 42, 3, 181, 0, 223, 42, 2, 181, 0, 104, 3, 60, 3, 61, 2, 62, 27, 42]
abbrev dktX1_run_0 : List UInt8 := dkwX1_run_0 ++ dktX1_run_1
theorem dksX1_run_0 : cX1_run.data.toList.drop 0 = dktX1_run_0 := by decide +kernel
theorem dksX1_run_1 : cX1_run.data.toList.drop 23 = dktX1_run_1 := dk_seg dksX1_run_0 23 rfl rfl
theorem dksX1_run_2 : cX1_run.data.toList.drop 47 = dktX1_run_2 := dk_seg dksX1_run_1 24 rfl rfl
theorem dksX1_run_3 : cX1_run.data.toList.drop 69 = dktX1_run_3 := dk_seg dksX1_run_2 22 rfl rfl
theorem dX1_run_0 : decode cX1_run 0 = .ok (.aload_n 0, 1) := dk_42 (dk_at dksX1_run_0 0 rfl rfl)
theorem dX1_run_1 : decode cX1_run 1 = .ok (.iconst 0, 1) := dk_3 (dk_at dksX1_run_0 1 rfl rfl)
theorem dX1_run_2 : decode cX1_run 2 = .ok (.putfield 191, 3) := dk_181 0 191 (dk_at dksX1_run_0 2 rfl rfl)
theorem dX1_run_5 : decode cX1_run 5 = .ok (.aload_n 0, 1) := dk_42 (dk_at dksX1_run_0 5 rfl rfl)
theorem dX1_run_6 : decode cX1_run 6 = .ok (.iconst 0, 1) := dk_3 (dk_at dksX1_run_0 6 rfl rfl)
theorem dX1_run_7 : decode cX1_run 7 = .ok (.putfield 223, 3) := dk_181 0 223 (dk_at dksX1_run_0 7 rfl rfl)
theorem dX1_run_10 : decode cX1_run 10 = .ok (.aload_n 0, 1) := dk_42 (dk_at dksX1_run_0 10 rfl rfl)
theorem dX1_run_11 : decode cX1_run 11 = .ok (.iconst (-1), 1) := dk_2 (dk_at dksX1_run_0 11 rfl rfl)
theorem dX1_run_12 : decode cX1_run 12 = .ok (.putfield 104, 3) := dk_181 0 104 (dk_at dksX1_run_0 12 rfl rfl)
theorem dX1_run_15 : decode cX1_run 15 = .ok (.iconst 0, 1) := dk_3 (dk_at dksX1_run_0 15 rfl rfl)
theorem dX1_run_16 : decode cX1_run 16 = .ok (.istore_n 1, 1) := dk_60 (dk_at dksX1_run_0 16 rfl rfl)
theorem dX1_run_17 : decode cX1_run 17 = .ok (.iconst 0, 1) := dk_3 (dk_at dksX1_run_0 17 rfl rfl)
theorem dX1_run_18 : decode cX1_run 18 = .ok (.istore_n 2, 1) := dk_61 (dk_at dksX1_run_0 18 rfl rfl)
theorem dX1_run_19 : decode cX1_run 19 = .ok (.iconst (-1), 1) := dk_2 (dk_at dksX1_run_0 19 rfl rfl)
theorem dX1_run_20 : decode cX1_run 20 = .ok (.istore_n 3, 1) := dk_62 (dk_at dksX1_run_0 20 rfl rfl)
theorem dX1_run_21 : decode cX1_run 21 = .ok (.iload_n 1, 1) := dk_27 (dk_at dksX1_run_0 21 rfl rfl)
theorem dX1_run_22 : decode cX1_run 22 = .ok (.aload_n 0, 1) := dk_42 (dk_at dksX1_run_0 22 rfl rfl)
theorem dX1_run_23 : decode cX1_run 23 = .ok (.getfield 167, 3) := dk_180 0 167 (dk_at dksX1_run_1 0 rfl rfl)
theorem dX1_run_26 : decode cX1_run 26 = .ok (.if_icmp .ge 36, 3) := dk_162 0 36 (dk_at dksX1_run_1 3 rfl rfl)
theorem dX1_run_29 : decode cX1_run 29 = .ok (.iload_n 3, 1) := dk_29 (dk_at dksX1_run_1 6 rfl rfl)
theorem dX1_run_30 : decode cX1_run 30 = .ok (.iconst (-1), 1) := dk_2 (dk_at dksX1_run_1 7 rfl rfl)
theorem dX1_run_31 : decode cX1_run 31 = .ok (.if_icmp .ne 31, 3) := dk_160 0 31 (dk_at dksX1_run_1 8 rfl rfl)
theorem dX1_run_34 : decode cX1_run 34 = .ok (.aload_n 0, 1) := dk_42 (dk_at dksX1_run_1 11 rfl rfl)
theorem dX1_run_35 : decode cX1_run 35 = .ok (.iload_n 1, 1) := dk_27 (dk_at dksX1_run_1 12 rfl rfl)
theorem dX1_run_36 : decode cX1_run 36 = .ok (.invokevirtual 307, 3) := dk_182 1 51 (dk_at dksX1_run_1 13 rfl rfl)
theorem dX1_run_39 : decode cX1_run 39 = .ok (.istore_n 1, 1) := dk_60 (dk_at dksX1_run_1 16 rfl rfl)
theorem dX1_run_40 : decode cX1_run 40 = .ok (.aload_n 0, 1) := dk_42 (dk_at dksX1_run_1 17 rfl rfl)
theorem dX1_run_41 : decode cX1_run 41 = .ok (.getfield 198, 3) := dk_180 0 198 (dk_at dksX1_run_1 18 rfl rfl)
theorem dX1_run_44 : decode cX1_run 44 = .ok (.ifCond .le 10, 3) := dk_158 0 10 (dk_at dksX1_run_1 21 rfl rfl)
theorem dX1_run_47 : decode cX1_run 47 = .ok (.aload_n 0, 1) := dk_42 (dk_at dksX1_run_2 0 rfl rfl)
theorem dX1_run_48 : decode cX1_run 48 = .ok (.invokevirtual 311, 3) := dk_182 1 55 (dk_at dksX1_run_2 1 rfl rfl)
theorem dX1_run_51 : decode cX1_run 51 = .ok (.goto 4, 3) := dk_167 0 4 (dk_at dksX1_run_2 4 rfl rfl)
theorem dX1_run_54 : decode cX1_run 54 = .ok (.iconst (-1), 1) := dk_2 (dk_at dksX1_run_2 7 rfl rfl)
theorem dX1_run_55 : decode cX1_run 55 = .ok (.istore_n 3, 1) := dk_62 (dk_at dksX1_run_2 8 rfl rfl)
theorem dX1_run_56 : decode cX1_run 56 = .ok (.iinc 2 1, 3) := dk_132 2 1 (dk_at dksX1_run_2 9 rfl rfl)
theorem dX1_run_59 : decode cX1_run 59 = .ok (.goto (-38), 3) := dk_167 255 218 (dk_at dksX1_run_2 12 rfl rfl)
theorem dX1_run_62 : decode cX1_run 62 = .ok (.aload_n 0, 1) := dk_42 (dk_at dksX1_run_2 15 rfl rfl)
theorem dX1_run_63 : decode cX1_run 63 = .ok (.iconst 0, 1) := dk_3 (dk_at dksX1_run_2 16 rfl rfl)
theorem dX1_run_64 : decode cX1_run 64 = .ok (.putfield 167, 3) := dk_181 0 167 (dk_at dksX1_run_2 17 rfl rfl)
theorem dX1_run_67 : decode cX1_run 67 = .ok (.aload_n 0, 1) := dk_42 (dk_at dksX1_run_2 20 rfl rfl)
theorem dX1_run_68 : decode cX1_run 68 = .ok (.iload_n 3, 1) := dk_29 (dk_at dksX1_run_2 21 rfl rfl)
theorem dX1_run_69 : decode cX1_run 69 = .ok (.putfield 104, 3) := dk_181 0 104 (dk_at dksX1_run_3 0 rfl rfl)
theorem dX1_run_72 : decode cX1_run 72 = .ok (.iload_n 3, 1) := dk_29 (dk_at dksX1_run_3 3 rfl rfl)
theorem dX1_run_73 : decode cX1_run 73 = .ok (.iconst (-1), 1) := dk_2 (dk_at dksX1_run_3 4 rfl rfl)
theorem dX1_run_74 : decode cX1_run 74 = .ok (.if_icmp .ne 10, 3) := dk_160 0 10 (dk_at dksX1_run_3 5 rfl rfl)
theorem dX1_run_77 : decode cX1_run 77 = .ok (.aload_n 0, 1) := dk_42 (dk_at dksX1_run_3 8 rfl rfl)
theorem dX1_run_78 : decode cX1_run 78 = .ok (.getfield 223, 3) := dk_180 0 223 (dk_at dksX1_run_3 9 rfl rfl)
theorem dX1_run_81 : decode cX1_run 81 = .ok (.goto 5, 3) := dk_167 0 5 (dk_at dksX1_run_3 12 rfl rfl)
theorem dX1_run_84 : decode cX1_run 84 = .ok (.iload_n 2, 1) := dk_28 (dk_at dksX1_run_3 15 rfl rfl)
theorem dX1_run_85 : decode cX1_run 85 = .ok (.ineg, 1) := dk_116 (dk_at dksX1_run_3 16 rfl rfl)
theorem dX1_run_86 : decode cX1_run 86 = .ok (.ireturn, 1) := dk_172 (dk_at dksX1_run_3 17 rfl rfl)
abbrev cX1_split : ByteArray := prog_1_method_8_code
def yX1_split : MethodName := ⟨RX1, "split", "(I)I"⟩
def dkwX1_split_5 : List UInt8 := [172]
abbrev dktX1_split_5 : List UInt8 := dkwX1_split_5 ++ []
def dkwX1_split_4 : List UInt8 := [42, 89, 180, 0, 198, 90, 4, 96, 181, 0, 198, 28, 79, 167, 255, 157, 42, 28, 181, 0, 201, 28, 4, 96]
abbrev dktX1_split_4 : List UInt8 := dkwX1_split_4 ++ dktX1_split_5
def dkwX1_split_3 : List UInt8 := [159, 0, 20, 42, 180, 0, 92, 28, 51, 16, 32, 159, 0, 9, 132, 2, 1, 167, 255, 223, 42, 180, 0, 112]
abbrev dktX1_split_3 : List UInt8 := dkwX1_split_3 ++ dktX1_split_4
def dkwX1_split_2 : List UInt8 := [42, 180, 0, 198, 28, 79, 28, 42, 180, 0, 167, 162, 0, 31, 42, 180, 0, 92, 28, 51, 16, 10]
abbrev dktX1_split_2 : List UInt8 := dkwX1_split_2 ++ dktX1_split_3
def dkwX1_split_1 : List UInt8 := [159, 0, 86, 42, 180, 0, 92, 28, 51, 16, 32, 160, 0, 9, 132, 2, 1, 167, 255, 223, 42, 180, 0, 108]
abbrev dktX1_split_1 : List UInt8 := dkwX1_split_1 ++ dktX1_split_2
def dkwX1_split_0 : List UInt8 := [42, 3, 181, 0, 198, 27, 61, 28, 42, 180, 0, 167, 162, 0, 97, 42, 180, 0, 92, 28, 51, 16, 10]
abbrev dktX1_split_0 : List UInt8 := dkwX1_split_0 ++ dktX1_split_1
theorem dksX1_split_0 : cX1_split.data.toList.drop 0 = dktX1_split_0 := by decide +kernel
theorem dksX1_split_1 : cX1_split.data.toList.drop 23 = dktX1_split_1 := dk_seg dksX1_split_0 23 rfl rfl
theorem dksX1_split_2 : cX1_split.data.toList.drop 47 = dktX1_split_2 := dk_seg dksX1_split_1 24 rfl rfl
theorem dksX1_split_3 : cX1_split.data.toList.drop 69 = dktX1_split_3 := dk_seg dksX1_split_2 22 rfl rfl
theorem dksX1_split_4 : cX1_split.data.toList.drop 93 = dktX1_split_4 := dk_seg dksX1_split_3 24 rfl rfl
theorem dksX1_split_5 : cX1_split.data.toList.drop 117 = dktX1_split_5 := dk_seg dksX1_split_4 24 rfl rfl
theorem dX1_split_0 : decode cX1_split 0 = .ok (.aload_n 0, 1) := dk_42 (dk_at dksX1_split_0 0 rfl rfl)
theorem dX1_split_1 : decode cX1_split 1 = .ok (.iconst 0, 1) := dk_3 (dk_at dksX1_split_0 1 rfl rfl)
theorem dX1_split_2 : decode cX1_split 2 = .ok (.putfield 198, 3) := dk_181 0 198 (dk_at dksX1_split_0 2 rfl rfl)
theorem dX1_split_5 : decode cX1_split 5 = .ok (.iload_n 1, 1) := dk_27 (dk_at dksX1_split_0 5 rfl rfl)
theorem dX1_split_6 : decode cX1_split 6 = .ok (.istore_n 2, 1) := dk_61 (dk_at dksX1_split_0 6 rfl rfl)
theorem dX1_split_7 : decode cX1_split 7 = .ok (.iload_n 2, 1) := dk_28 (dk_at dksX1_split_0 7 rfl rfl)
theorem dX1_split_8 : decode cX1_split 8 = .ok (.aload_n 0, 1) := dk_42 (dk_at dksX1_split_0 8 rfl rfl)
theorem dX1_split_9 : decode cX1_split 9 = .ok (.getfield 167, 3) := dk_180 0 167 (dk_at dksX1_split_0 9 rfl rfl)
theorem dX1_split_12 : decode cX1_split 12 = .ok (.if_icmp .ge 97, 3) := dk_162 0 97 (dk_at dksX1_split_0 12 rfl rfl)
theorem dX1_split_15 : decode cX1_split 15 = .ok (.aload_n 0, 1) := dk_42 (dk_at dksX1_split_0 15 rfl rfl)
theorem dX1_split_16 : decode cX1_split 16 = .ok (.getfield 92, 3) := dk_180 0 92 (dk_at dksX1_split_0 16 rfl rfl)
theorem dX1_split_19 : decode cX1_split 19 = .ok (.iload_n 2, 1) := dk_28 (dk_at dksX1_split_0 19 rfl rfl)
theorem dX1_split_20 : decode cX1_split 20 = .ok (.baload, 1) := dk_51 (dk_at dksX1_split_0 20 rfl rfl)
theorem dX1_split_21 : decode cX1_split 21 = .ok (.bipush 10, 2) := dk_16 10 (dk_at dksX1_split_0 21 rfl rfl)
theorem dX1_split_23 : decode cX1_split 23 = .ok (.if_icmp .eq 86, 3) := dk_159 0 86 (dk_at dksX1_split_1 0 rfl rfl)
theorem dX1_split_26 : decode cX1_split 26 = .ok (.aload_n 0, 1) := dk_42 (dk_at dksX1_split_1 3 rfl rfl)
theorem dX1_split_27 : decode cX1_split 27 = .ok (.getfield 92, 3) := dk_180 0 92 (dk_at dksX1_split_1 4 rfl rfl)
theorem dX1_split_30 : decode cX1_split 30 = .ok (.iload_n 2, 1) := dk_28 (dk_at dksX1_split_1 7 rfl rfl)
theorem dX1_split_31 : decode cX1_split 31 = .ok (.baload, 1) := dk_51 (dk_at dksX1_split_1 8 rfl rfl)
theorem dX1_split_32 : decode cX1_split 32 = .ok (.bipush 32, 2) := dk_16 32 (dk_at dksX1_split_1 9 rfl rfl)
theorem dX1_split_34 : decode cX1_split 34 = .ok (.if_icmp .ne 9, 3) := dk_160 0 9 (dk_at dksX1_split_1 11 rfl rfl)
theorem dX1_split_37 : decode cX1_split 37 = .ok (.iinc 2 1, 3) := dk_132 2 1 (dk_at dksX1_split_1 14 rfl rfl)
theorem dX1_split_40 : decode cX1_split 40 = .ok (.goto (-33), 3) := dk_167 255 223 (dk_at dksX1_split_1 17 rfl rfl)
theorem dX1_split_43 : decode cX1_split 43 = .ok (.aload_n 0, 1) := dk_42 (dk_at dksX1_split_1 20 rfl rfl)
theorem dX1_split_44 : decode cX1_split 44 = .ok (.getfield 108, 3) := dk_180 0 108 (dk_at dksX1_split_1 21 rfl rfl)
theorem dX1_split_47 : decode cX1_split 47 = .ok (.aload_n 0, 1) := dk_42 (dk_at dksX1_split_2 0 rfl rfl)
theorem dX1_split_48 : decode cX1_split 48 = .ok (.getfield 198, 3) := dk_180 0 198 (dk_at dksX1_split_2 1 rfl rfl)
theorem dX1_split_51 : decode cX1_split 51 = .ok (.iload_n 2, 1) := dk_28 (dk_at dksX1_split_2 4 rfl rfl)
theorem dX1_split_52 : decode cX1_split 52 = .ok (.iastore, 1) := dk_79 (dk_at dksX1_split_2 5 rfl rfl)
theorem dX1_split_53 : decode cX1_split 53 = .ok (.iload_n 2, 1) := dk_28 (dk_at dksX1_split_2 6 rfl rfl)
theorem dX1_split_54 : decode cX1_split 54 = .ok (.aload_n 0, 1) := dk_42 (dk_at dksX1_split_2 7 rfl rfl)
theorem dX1_split_55 : decode cX1_split 55 = .ok (.getfield 167, 3) := dk_180 0 167 (dk_at dksX1_split_2 8 rfl rfl)
theorem dX1_split_58 : decode cX1_split 58 = .ok (.if_icmp .ge 31, 3) := dk_162 0 31 (dk_at dksX1_split_2 11 rfl rfl)
theorem dX1_split_61 : decode cX1_split 61 = .ok (.aload_n 0, 1) := dk_42 (dk_at dksX1_split_2 14 rfl rfl)
theorem dX1_split_62 : decode cX1_split 62 = .ok (.getfield 92, 3) := dk_180 0 92 (dk_at dksX1_split_2 15 rfl rfl)
theorem dX1_split_65 : decode cX1_split 65 = .ok (.iload_n 2, 1) := dk_28 (dk_at dksX1_split_2 18 rfl rfl)
theorem dX1_split_66 : decode cX1_split 66 = .ok (.baload, 1) := dk_51 (dk_at dksX1_split_2 19 rfl rfl)
theorem dX1_split_67 : decode cX1_split 67 = .ok (.bipush 10, 2) := dk_16 10 (dk_at dksX1_split_2 20 rfl rfl)
theorem dX1_split_69 : decode cX1_split 69 = .ok (.if_icmp .eq 20, 3) := dk_159 0 20 (dk_at dksX1_split_3 0 rfl rfl)
theorem dX1_split_72 : decode cX1_split 72 = .ok (.aload_n 0, 1) := dk_42 (dk_at dksX1_split_3 3 rfl rfl)
theorem dX1_split_73 : decode cX1_split 73 = .ok (.getfield 92, 3) := dk_180 0 92 (dk_at dksX1_split_3 4 rfl rfl)
theorem dX1_split_76 : decode cX1_split 76 = .ok (.iload_n 2, 1) := dk_28 (dk_at dksX1_split_3 7 rfl rfl)
theorem dX1_split_77 : decode cX1_split 77 = .ok (.baload, 1) := dk_51 (dk_at dksX1_split_3 8 rfl rfl)
theorem dX1_split_78 : decode cX1_split 78 = .ok (.bipush 32, 2) := dk_16 32 (dk_at dksX1_split_3 9 rfl rfl)
theorem dX1_split_80 : decode cX1_split 80 = .ok (.if_icmp .eq 9, 3) := dk_159 0 9 (dk_at dksX1_split_3 11 rfl rfl)
theorem dX1_split_83 : decode cX1_split 83 = .ok (.iinc 2 1, 3) := dk_132 2 1 (dk_at dksX1_split_3 14 rfl rfl)
theorem dX1_split_86 : decode cX1_split 86 = .ok (.goto (-33), 3) := dk_167 255 223 (dk_at dksX1_split_3 17 rfl rfl)
theorem dX1_split_89 : decode cX1_split 89 = .ok (.aload_n 0, 1) := dk_42 (dk_at dksX1_split_3 20 rfl rfl)
theorem dX1_split_90 : decode cX1_split 90 = .ok (.getfield 112, 3) := dk_180 0 112 (dk_at dksX1_split_3 21 rfl rfl)
theorem dX1_split_93 : decode cX1_split 93 = .ok (.aload_n 0, 1) := dk_42 (dk_at dksX1_split_4 0 rfl rfl)
theorem dX1_split_94 : decode cX1_split 94 = .ok (.dup, 1) := dk_89 (dk_at dksX1_split_4 1 rfl rfl)
theorem dX1_split_95 : decode cX1_split 95 = .ok (.getfield 198, 3) := dk_180 0 198 (dk_at dksX1_split_4 2 rfl rfl)
theorem dX1_split_98 : decode cX1_split 98 = .ok (.dup_x1, 1) := dk_90 (dk_at dksX1_split_4 5 rfl rfl)
theorem dX1_split_99 : decode cX1_split 99 = .ok (.iconst 1, 1) := dk_4 (dk_at dksX1_split_4 6 rfl rfl)
theorem dX1_split_100 : decode cX1_split 100 = .ok (.iadd, 1) := dk_96 (dk_at dksX1_split_4 7 rfl rfl)
theorem dX1_split_101 : decode cX1_split 101 = .ok (.putfield 198, 3) := dk_181 0 198 (dk_at dksX1_split_4 8 rfl rfl)
theorem dX1_split_104 : decode cX1_split 104 = .ok (.iload_n 2, 1) := dk_28 (dk_at dksX1_split_4 11 rfl rfl)
theorem dX1_split_105 : decode cX1_split 105 = .ok (.iastore, 1) := dk_79 (dk_at dksX1_split_4 12 rfl rfl)
theorem dX1_split_106 : decode cX1_split 106 = .ok (.goto (-99), 3) := dk_167 255 157 (dk_at dksX1_split_4 13 rfl rfl)
theorem dX1_split_109 : decode cX1_split 109 = .ok (.aload_n 0, 1) := dk_42 (dk_at dksX1_split_4 16 rfl rfl)
theorem dX1_split_110 : decode cX1_split 110 = .ok (.iload_n 2, 1) := dk_28 (dk_at dksX1_split_4 17 rfl rfl)
theorem dX1_split_111 : decode cX1_split 111 = .ok (.putfield 201, 3) := dk_181 0 201 (dk_at dksX1_split_4 18 rfl rfl)
theorem dX1_split_114 : decode cX1_split 114 = .ok (.iload_n 2, 1) := dk_28 (dk_at dksX1_split_4 21 rfl rfl)
theorem dX1_split_115 : decode cX1_split 115 = .ok (.iconst 1, 1) := dk_4 (dk_at dksX1_split_4 22 rfl rfl)
theorem dX1_split_116 : decode cX1_split 116 = .ok (.iadd, 1) := dk_96 (dk_at dksX1_split_4 23 rfl rfl)
theorem dX1_split_117 : decode cX1_split 117 = .ok (.ireturn, 1) := dk_172 (dk_at dksX1_split_5 0 rfl rfl)
abbrev cX1_doLine : ByteArray := prog_1_method_14_code
def yX1_doLine : MethodName := ⟨RX1, "doLine", "()I"⟩
def dkwX1_doLine_7 : List UInt8 := [96, 172, 42, 43, 28, 182, 1, 29, 2, 172]
abbrev dktX1_doLine_7 : List UInt8 := dkwX1_doLine_7 ++ []
def dkwX1_doLine_6 : List UInt8 := [132, 4, 1, 167, 255, 209, 42, 180, 0, 198, 45, 182, 0, 185, 5, 96, 164, 0, 10, 45, 182, 0, 185, 5]
abbrev dktX1_doLine_6 : List UInt8 := dkwX1_doLine_6 ++ dktX1_doLine_7
def dkwX1_doLine_5 : List UInt8 := [21, 4, 5, 96, 21, 4, 45, 21, 4, 182, 0, 194, 182, 1, 25, 154, 0, 8, 21, 4, 5, 96, 172]
abbrev dktX1_doLine_5 : List UInt8 := dkwX1_doLine_5 ++ dktX1_doLine_6
def dkwX1_doLine_4 : List UInt8 := [3, 54, 4, 21, 4, 45, 182, 0, 185, 162, 0, 44, 42, 180, 0, 198, 21, 4, 5, 96, 164, 0, 22, 42]
abbrev dktX1_doLine_4 : List UInt8 := dkwX1_doLine_4 ++ dktX1_doLine_5
def dkwX1_doLine_3 : List UInt8 := [132, 4, 1, 167, 255, 238, 45, 19, 1, 19, 182, 0, 246, 153, 0, 11, 42, 43, 182, 1, 21, 167, 0, 76]
abbrev dktX1_doLine_3 : List UInt8 := dkwX1_doLine_3 ++ dktX1_doLine_4
def dkwX1_doLine_2 : List UInt8 := [182, 1, 16, 78, 3, 54, 4, 21, 4, 16, 6, 162, 0, 17, 42, 180, 0, 115, 21, 4, 9, 80]
abbrev dktX1_doLine_2 : List UInt8 := dkwX1_doLine_2 ++ dktX1_doLine_3
def dkwX1_doLine_1 : List UInt8 := [43, 42, 4, 182, 1, 4, 182, 1, 12, 167, 0, 4, 2, 61, 28, 156, 0, 5, 4, 172, 43, 28]
abbrev dktX1_doLine_1 : List UInt8 := dkwX1_doLine_1 ++ dktX1_doLine_2
def dkwX1_doLine_0 : List UInt8 := [42, 42, 3, 182, 1, 4, 182, 1, 8, 76, 43, 199, 0, 5, 3, 172, 42, 180, 0, 198, 4, 164, 0, 15]
abbrev dktX1_doLine_0 : List UInt8 := dkwX1_doLine_0 ++ dktX1_doLine_1
theorem dksX1_doLine_0 : cX1_doLine.data.toList.drop 0 = dktX1_doLine_0 := by decide +kernel
theorem dksX1_doLine_1 : cX1_doLine.data.toList.drop 24 = dktX1_doLine_1 := dk_seg dksX1_doLine_0 24 rfl rfl
theorem dksX1_doLine_2 : cX1_doLine.data.toList.drop 46 = dktX1_doLine_2 := dk_seg dksX1_doLine_1 22 rfl rfl
theorem dksX1_doLine_3 : cX1_doLine.data.toList.drop 68 = dktX1_doLine_3 := dk_seg dksX1_doLine_2 22 rfl rfl
theorem dksX1_doLine_4 : cX1_doLine.data.toList.drop 92 = dktX1_doLine_4 := dk_seg dksX1_doLine_3 24 rfl rfl
theorem dksX1_doLine_5 : cX1_doLine.data.toList.drop 116 = dktX1_doLine_5 := dk_seg dksX1_doLine_4 24 rfl rfl
theorem dksX1_doLine_6 : cX1_doLine.data.toList.drop 139 = dktX1_doLine_6 := dk_seg dksX1_doLine_5 23 rfl rfl
theorem dksX1_doLine_7 : cX1_doLine.data.toList.drop 163 = dktX1_doLine_7 := dk_seg dksX1_doLine_6 24 rfl rfl
theorem dX1_doLine_0 : decode cX1_doLine 0 = .ok (.aload_n 0, 1) := dk_42 (dk_at dksX1_doLine_0 0 rfl rfl)
theorem dX1_doLine_1 : decode cX1_doLine 1 = .ok (.aload_n 0, 1) := dk_42 (dk_at dksX1_doLine_0 1 rfl rfl)
theorem dX1_doLine_2 : decode cX1_doLine 2 = .ok (.iconst 0, 1) := dk_3 (dk_at dksX1_doLine_0 2 rfl rfl)
theorem dX1_doLine_3 : decode cX1_doLine 3 = .ok (.invokevirtual 260, 3) := dk_182 1 4 (dk_at dksX1_doLine_0 3 rfl rfl)
theorem dX1_doLine_6 : decode cX1_doLine 6 = .ok (.invokevirtual 264, 3) := dk_182 1 8 (dk_at dksX1_doLine_0 6 rfl rfl)
theorem dX1_doLine_9 : decode cX1_doLine 9 = .ok (.astore_n 1, 1) := dk_76 (dk_at dksX1_doLine_0 9 rfl rfl)
theorem dX1_doLine_10 : decode cX1_doLine 10 = .ok (.aload_n 1, 1) := dk_43 (dk_at dksX1_doLine_0 10 rfl rfl)
theorem dX1_doLine_11 : decode cX1_doLine 11 = .ok (.ifnonnull 5, 3) := dk_199 0 5 (dk_at dksX1_doLine_0 11 rfl rfl)
theorem dX1_doLine_14 : decode cX1_doLine 14 = .ok (.iconst 0, 1) := dk_3 (dk_at dksX1_doLine_0 14 rfl rfl)
theorem dX1_doLine_15 : decode cX1_doLine 15 = .ok (.ireturn, 1) := dk_172 (dk_at dksX1_doLine_0 15 rfl rfl)
theorem dX1_doLine_16 : decode cX1_doLine 16 = .ok (.aload_n 0, 1) := dk_42 (dk_at dksX1_doLine_0 16 rfl rfl)
theorem dX1_doLine_17 : decode cX1_doLine 17 = .ok (.getfield 198, 3) := dk_180 0 198 (dk_at dksX1_doLine_0 17 rfl rfl)
theorem dX1_doLine_20 : decode cX1_doLine 20 = .ok (.iconst 1, 1) := dk_4 (dk_at dksX1_doLine_0 20 rfl rfl)
theorem dX1_doLine_21 : decode cX1_doLine 21 = .ok (.if_icmp .le 15, 3) := dk_164 0 15 (dk_at dksX1_doLine_0 21 rfl rfl)
theorem dX1_doLine_24 : decode cX1_doLine 24 = .ok (.aload_n 1, 1) := dk_43 (dk_at dksX1_doLine_1 0 rfl rfl)
theorem dX1_doLine_25 : decode cX1_doLine 25 = .ok (.aload_n 0, 1) := dk_42 (dk_at dksX1_doLine_1 1 rfl rfl)
theorem dX1_doLine_26 : decode cX1_doLine 26 = .ok (.iconst 1, 1) := dk_4 (dk_at dksX1_doLine_1 2 rfl rfl)
theorem dX1_doLine_27 : decode cX1_doLine 27 = .ok (.invokevirtual 260, 3) := dk_182 1 4 (dk_at dksX1_doLine_1 3 rfl rfl)
theorem dX1_doLine_30 : decode cX1_doLine 30 = .ok (.invokevirtual 268, 3) := dk_182 1 12 (dk_at dksX1_doLine_1 6 rfl rfl)
theorem dX1_doLine_33 : decode cX1_doLine 33 = .ok (.goto 4, 3) := dk_167 0 4 (dk_at dksX1_doLine_1 9 rfl rfl)
theorem dX1_doLine_36 : decode cX1_doLine 36 = .ok (.iconst (-1), 1) := dk_2 (dk_at dksX1_doLine_1 12 rfl rfl)
theorem dX1_doLine_37 : decode cX1_doLine 37 = .ok (.istore_n 2, 1) := dk_61 (dk_at dksX1_doLine_1 13 rfl rfl)
theorem dX1_doLine_38 : decode cX1_doLine 38 = .ok (.iload_n 2, 1) := dk_28 (dk_at dksX1_doLine_1 14 rfl rfl)
theorem dX1_doLine_39 : decode cX1_doLine 39 = .ok (.ifCond .ge 5, 3) := dk_156 0 5 (dk_at dksX1_doLine_1 15 rfl rfl)
theorem dX1_doLine_42 : decode cX1_doLine 42 = .ok (.iconst 1, 1) := dk_4 (dk_at dksX1_doLine_1 18 rfl rfl)
theorem dX1_doLine_43 : decode cX1_doLine 43 = .ok (.ireturn, 1) := dk_172 (dk_at dksX1_doLine_1 19 rfl rfl)
theorem dX1_doLine_44 : decode cX1_doLine 44 = .ok (.aload_n 1, 1) := dk_43 (dk_at dksX1_doLine_1 20 rfl rfl)
theorem dX1_doLine_45 : decode cX1_doLine 45 = .ok (.iload_n 2, 1) := dk_28 (dk_at dksX1_doLine_1 21 rfl rfl)
theorem dX1_doLine_46 : decode cX1_doLine 46 = .ok (.invokevirtual 272, 3) := dk_182 1 16 (dk_at dksX1_doLine_2 0 rfl rfl)
theorem dX1_doLine_49 : decode cX1_doLine 49 = .ok (.astore_n 3, 1) := dk_78 (dk_at dksX1_doLine_2 3 rfl rfl)
theorem dX1_doLine_50 : decode cX1_doLine 50 = .ok (.iconst 0, 1) := dk_3 (dk_at dksX1_doLine_2 4 rfl rfl)
theorem dX1_doLine_51 : decode cX1_doLine 51 = .ok (.istore 4, 2) := dk_54 4 (dk_at dksX1_doLine_2 5 rfl rfl)
theorem dX1_doLine_53 : decode cX1_doLine 53 = .ok (.iload 4, 2) := dk_21 4 (dk_at dksX1_doLine_2 7 rfl rfl)
theorem dX1_doLine_55 : decode cX1_doLine 55 = .ok (.bipush 6, 2) := dk_16 6 (dk_at dksX1_doLine_2 9 rfl rfl)
theorem dX1_doLine_57 : decode cX1_doLine 57 = .ok (.if_icmp .ge 17, 3) := dk_162 0 17 (dk_at dksX1_doLine_2 11 rfl rfl)
theorem dX1_doLine_60 : decode cX1_doLine 60 = .ok (.aload_n 0, 1) := dk_42 (dk_at dksX1_doLine_2 14 rfl rfl)
theorem dX1_doLine_61 : decode cX1_doLine 61 = .ok (.getfield 115, 3) := dk_180 0 115 (dk_at dksX1_doLine_2 15 rfl rfl)
theorem dX1_doLine_64 : decode cX1_doLine 64 = .ok (.iload 4, 2) := dk_21 4 (dk_at dksX1_doLine_2 18 rfl rfl)
theorem dX1_doLine_66 : decode cX1_doLine 66 = .ok (.lconst 0, 1) := dk_9 (dk_at dksX1_doLine_2 20 rfl rfl)
theorem dX1_doLine_67 : decode cX1_doLine 67 = .ok (.lastore, 1) := dk_80 (dk_at dksX1_doLine_2 21 rfl rfl)
theorem dX1_doLine_68 : decode cX1_doLine 68 = .ok (.iinc 4 1, 3) := dk_132 4 1 (dk_at dksX1_doLine_3 0 rfl rfl)
theorem dX1_doLine_71 : decode cX1_doLine 71 = .ok (.goto (-18), 3) := dk_167 255 238 (dk_at dksX1_doLine_3 3 rfl rfl)
theorem dX1_doLine_74 : decode cX1_doLine 74 = .ok (.aload_n 3, 1) := dk_45 (dk_at dksX1_doLine_3 6 rfl rfl)
theorem dX1_doLine_75 : decode cX1_doLine 75 = .ok (.ldc_w 275, 3) := dk_19 1 19 (dk_at dksX1_doLine_3 7 rfl rfl)
theorem dX1_doLine_78 : decode cX1_doLine 78 = .ok (.invokevirtual 246, 3) := dk_182 0 246 (dk_at dksX1_doLine_3 10 rfl rfl)
theorem dX1_doLine_81 : decode cX1_doLine 81 = .ok (.ifCond .eq 11, 3) := dk_153 0 11 (dk_at dksX1_doLine_3 13 rfl rfl)
theorem dX1_doLine_84 : decode cX1_doLine 84 = .ok (.aload_n 0, 1) := dk_42 (dk_at dksX1_doLine_3 16 rfl rfl)
theorem dX1_doLine_85 : decode cX1_doLine 85 = .ok (.aload_n 1, 1) := dk_43 (dk_at dksX1_doLine_3 17 rfl rfl)
theorem dX1_doLine_86 : decode cX1_doLine 86 = .ok (.invokevirtual 277, 3) := dk_182 1 21 (dk_at dksX1_doLine_3 18 rfl rfl)
theorem dX1_doLine_89 : decode cX1_doLine 89 = .ok (.goto 76, 3) := dk_167 0 76 (dk_at dksX1_doLine_3 21 rfl rfl)
theorem dX1_doLine_92 : decode cX1_doLine 92 = .ok (.iconst 0, 1) := dk_3 (dk_at dksX1_doLine_4 0 rfl rfl)
theorem dX1_doLine_93 : decode cX1_doLine 93 = .ok (.istore 4, 2) := dk_54 4 (dk_at dksX1_doLine_4 1 rfl rfl)
theorem dX1_doLine_95 : decode cX1_doLine 95 = .ok (.iload 4, 2) := dk_21 4 (dk_at dksX1_doLine_4 3 rfl rfl)
theorem dX1_doLine_97 : decode cX1_doLine 97 = .ok (.aload_n 3, 1) := dk_45 (dk_at dksX1_doLine_4 5 rfl rfl)
theorem dX1_doLine_98 : decode cX1_doLine 98 = .ok (.invokevirtual 185, 3) := dk_182 0 185 (dk_at dksX1_doLine_4 6 rfl rfl)
theorem dX1_doLine_101 : decode cX1_doLine 101 = .ok (.if_icmp .ge 44, 3) := dk_162 0 44 (dk_at dksX1_doLine_4 9 rfl rfl)
theorem dX1_doLine_104 : decode cX1_doLine 104 = .ok (.aload_n 0, 1) := dk_42 (dk_at dksX1_doLine_4 12 rfl rfl)
theorem dX1_doLine_105 : decode cX1_doLine 105 = .ok (.getfield 198, 3) := dk_180 0 198 (dk_at dksX1_doLine_4 13 rfl rfl)
theorem dX1_doLine_108 : decode cX1_doLine 108 = .ok (.iload 4, 2) := dk_21 4 (dk_at dksX1_doLine_4 16 rfl rfl)
theorem dX1_doLine_110 : decode cX1_doLine 110 = .ok (.iconst 2, 1) := dk_5 (dk_at dksX1_doLine_4 18 rfl rfl)
theorem dX1_doLine_111 : decode cX1_doLine 111 = .ok (.iadd, 1) := dk_96 (dk_at dksX1_doLine_4 19 rfl rfl)
theorem dX1_doLine_112 : decode cX1_doLine 112 = .ok (.if_icmp .le 22, 3) := dk_164 0 22 (dk_at dksX1_doLine_4 20 rfl rfl)
theorem dX1_doLine_115 : decode cX1_doLine 115 = .ok (.aload_n 0, 1) := dk_42 (dk_at dksX1_doLine_4 23 rfl rfl)
theorem dX1_doLine_116 : decode cX1_doLine 116 = .ok (.iload 4, 2) := dk_21 4 (dk_at dksX1_doLine_5 0 rfl rfl)
theorem dX1_doLine_118 : decode cX1_doLine 118 = .ok (.iconst 2, 1) := dk_5 (dk_at dksX1_doLine_5 2 rfl rfl)
theorem dX1_doLine_119 : decode cX1_doLine 119 = .ok (.iadd, 1) := dk_96 (dk_at dksX1_doLine_5 3 rfl rfl)
theorem dX1_doLine_120 : decode cX1_doLine 120 = .ok (.iload 4, 2) := dk_21 4 (dk_at dksX1_doLine_5 4 rfl rfl)
theorem dX1_doLine_122 : decode cX1_doLine 122 = .ok (.aload_n 3, 1) := dk_45 (dk_at dksX1_doLine_5 6 rfl rfl)
theorem dX1_doLine_123 : decode cX1_doLine 123 = .ok (.iload 4, 2) := dk_21 4 (dk_at dksX1_doLine_5 7 rfl rfl)
theorem dX1_doLine_125 : decode cX1_doLine 125 = .ok (.invokevirtual 194, 3) := dk_182 0 194 (dk_at dksX1_doLine_5 9 rfl rfl)
theorem dX1_doLine_128 : decode cX1_doLine 128 = .ok (.invokevirtual 281, 3) := dk_182 1 25 (dk_at dksX1_doLine_5 12 rfl rfl)
theorem dX1_doLine_131 : decode cX1_doLine 131 = .ok (.ifCond .ne 8, 3) := dk_154 0 8 (dk_at dksX1_doLine_5 15 rfl rfl)
theorem dX1_doLine_134 : decode cX1_doLine 134 = .ok (.iload 4, 2) := dk_21 4 (dk_at dksX1_doLine_5 18 rfl rfl)
theorem dX1_doLine_136 : decode cX1_doLine 136 = .ok (.iconst 2, 1) := dk_5 (dk_at dksX1_doLine_5 20 rfl rfl)
theorem dX1_doLine_137 : decode cX1_doLine 137 = .ok (.iadd, 1) := dk_96 (dk_at dksX1_doLine_5 21 rfl rfl)
theorem dX1_doLine_138 : decode cX1_doLine 138 = .ok (.ireturn, 1) := dk_172 (dk_at dksX1_doLine_5 22 rfl rfl)
theorem dX1_doLine_139 : decode cX1_doLine 139 = .ok (.iinc 4 1, 3) := dk_132 4 1 (dk_at dksX1_doLine_6 0 rfl rfl)
theorem dX1_doLine_142 : decode cX1_doLine 142 = .ok (.goto (-47), 3) := dk_167 255 209 (dk_at dksX1_doLine_6 3 rfl rfl)
theorem dX1_doLine_145 : decode cX1_doLine 145 = .ok (.aload_n 0, 1) := dk_42 (dk_at dksX1_doLine_6 6 rfl rfl)
theorem dX1_doLine_146 : decode cX1_doLine 146 = .ok (.getfield 198, 3) := dk_180 0 198 (dk_at dksX1_doLine_6 7 rfl rfl)
theorem dX1_doLine_149 : decode cX1_doLine 149 = .ok (.aload_n 3, 1) := dk_45 (dk_at dksX1_doLine_6 10 rfl rfl)
theorem dX1_doLine_150 : decode cX1_doLine 150 = .ok (.invokevirtual 185, 3) := dk_182 0 185 (dk_at dksX1_doLine_6 11 rfl rfl)
theorem dX1_doLine_153 : decode cX1_doLine 153 = .ok (.iconst 2, 1) := dk_5 (dk_at dksX1_doLine_6 14 rfl rfl)
theorem dX1_doLine_154 : decode cX1_doLine 154 = .ok (.iadd, 1) := dk_96 (dk_at dksX1_doLine_6 15 rfl rfl)
theorem dX1_doLine_155 : decode cX1_doLine 155 = .ok (.if_icmp .le 10, 3) := dk_164 0 10 (dk_at dksX1_doLine_6 16 rfl rfl)
theorem dX1_doLine_158 : decode cX1_doLine 158 = .ok (.aload_n 3, 1) := dk_45 (dk_at dksX1_doLine_6 19 rfl rfl)
theorem dX1_doLine_159 : decode cX1_doLine 159 = .ok (.invokevirtual 185, 3) := dk_182 0 185 (dk_at dksX1_doLine_6 20 rfl rfl)
theorem dX1_doLine_162 : decode cX1_doLine 162 = .ok (.iconst 2, 1) := dk_5 (dk_at dksX1_doLine_6 23 rfl rfl)
theorem dX1_doLine_163 : decode cX1_doLine 163 = .ok (.iadd, 1) := dk_96 (dk_at dksX1_doLine_7 0 rfl rfl)
theorem dX1_doLine_164 : decode cX1_doLine 164 = .ok (.ireturn, 1) := dk_172 (dk_at dksX1_doLine_7 1 rfl rfl)
theorem dX1_doLine_165 : decode cX1_doLine 165 = .ok (.aload_n 0, 1) := dk_42 (dk_at dksX1_doLine_7 2 rfl rfl)
theorem dX1_doLine_166 : decode cX1_doLine 166 = .ok (.aload_n 1, 1) := dk_43 (dk_at dksX1_doLine_7 3 rfl rfl)
theorem dX1_doLine_167 : decode cX1_doLine 167 = .ok (.iload_n 2, 1) := dk_28 (dk_at dksX1_doLine_7 4 rfl rfl)
theorem dX1_doLine_168 : decode cX1_doLine 168 = .ok (.invokevirtual 285, 3) := dk_182 1 29 (dk_at dksX1_doLine_7 5 rfl rfl)
theorem dX1_doLine_171 : decode cX1_doLine 171 = .ok (.iconst (-1), 1) := dk_2 (dk_at dksX1_doLine_7 8 rfl rfl)
theorem dX1_doLine_172 : decode cX1_doLine 172 = .ok (.ireturn, 1) := dk_172 (dk_at dksX1_doLine_7 9 rfl rfl)
abbrev cX1_word : ByteArray := prog_1_method_9_code
def yX1_word : MethodName := ⟨RX1, "word", "(I)Ljava/lang/String;"⟩
def dkwX1_word_2 : List UInt8 := [167, 255, 227, 44, 182, 0, 211, 176]
abbrev dktX1_word_2 : List UInt8 := dkwX1_word_2 ++ []
def dkwX1_word_1 : List UInt8 := [162, 0, 25, 44, 42, 180, 0, 92, 29, 51, 17, 0, 255, 126, 146, 182, 0, 207, 87, 132, 3, 1]
abbrev dktX1_word_1 : List UInt8 := dkwX1_word_1 ++ dktX1_word_2
def dkwX1_word_0 : List UInt8 := [187, 0, 204, 89, 183, 0, 206, 77, 42, 180, 0, 108, 27, 46, 62, 29, 42, 180, 0, 112, 27, 46]
abbrev dktX1_word_0 : List UInt8 := dkwX1_word_0 ++ dktX1_word_1
theorem dksX1_word_0 : cX1_word.data.toList.drop 0 = dktX1_word_0 := by decide +kernel
theorem dksX1_word_1 : cX1_word.data.toList.drop 22 = dktX1_word_1 := dk_seg dksX1_word_0 22 rfl rfl
theorem dksX1_word_2 : cX1_word.data.toList.drop 44 = dktX1_word_2 := dk_seg dksX1_word_1 22 rfl rfl
theorem dX1_word_0 : decode cX1_word 0 = .ok (.new 204, 3) := dk_187 0 204 (dk_at dksX1_word_0 0 rfl rfl)
theorem dX1_word_3 : decode cX1_word 3 = .ok (.dup, 1) := dk_89 (dk_at dksX1_word_0 3 rfl rfl)
theorem dX1_word_4 : decode cX1_word 4 = .ok (.invokespecial 206, 3) := dk_183 0 206 (dk_at dksX1_word_0 4 rfl rfl)
theorem dX1_word_7 : decode cX1_word 7 = .ok (.astore_n 2, 1) := dk_77 (dk_at dksX1_word_0 7 rfl rfl)
theorem dX1_word_8 : decode cX1_word 8 = .ok (.aload_n 0, 1) := dk_42 (dk_at dksX1_word_0 8 rfl rfl)
theorem dX1_word_9 : decode cX1_word 9 = .ok (.getfield 108, 3) := dk_180 0 108 (dk_at dksX1_word_0 9 rfl rfl)
theorem dX1_word_12 : decode cX1_word 12 = .ok (.iload_n 1, 1) := dk_27 (dk_at dksX1_word_0 12 rfl rfl)
theorem dX1_word_13 : decode cX1_word 13 = .ok (.iaload, 1) := dk_46 (dk_at dksX1_word_0 13 rfl rfl)
theorem dX1_word_14 : decode cX1_word 14 = .ok (.istore_n 3, 1) := dk_62 (dk_at dksX1_word_0 14 rfl rfl)
theorem dX1_word_15 : decode cX1_word 15 = .ok (.iload_n 3, 1) := dk_29 (dk_at dksX1_word_0 15 rfl rfl)
theorem dX1_word_16 : decode cX1_word 16 = .ok (.aload_n 0, 1) := dk_42 (dk_at dksX1_word_0 16 rfl rfl)
theorem dX1_word_17 : decode cX1_word 17 = .ok (.getfield 112, 3) := dk_180 0 112 (dk_at dksX1_word_0 17 rfl rfl)
theorem dX1_word_20 : decode cX1_word 20 = .ok (.iload_n 1, 1) := dk_27 (dk_at dksX1_word_0 20 rfl rfl)
theorem dX1_word_21 : decode cX1_word 21 = .ok (.iaload, 1) := dk_46 (dk_at dksX1_word_0 21 rfl rfl)
theorem dX1_word_22 : decode cX1_word 22 = .ok (.if_icmp .ge 25, 3) := dk_162 0 25 (dk_at dksX1_word_1 0 rfl rfl)
theorem dX1_word_25 : decode cX1_word 25 = .ok (.aload_n 2, 1) := dk_44 (dk_at dksX1_word_1 3 rfl rfl)
theorem dX1_word_26 : decode cX1_word 26 = .ok (.aload_n 0, 1) := dk_42 (dk_at dksX1_word_1 4 rfl rfl)
theorem dX1_word_27 : decode cX1_word 27 = .ok (.getfield 92, 3) := dk_180 0 92 (dk_at dksX1_word_1 5 rfl rfl)
theorem dX1_word_30 : decode cX1_word 30 = .ok (.iload_n 3, 1) := dk_29 (dk_at dksX1_word_1 8 rfl rfl)
theorem dX1_word_31 : decode cX1_word 31 = .ok (.baload, 1) := dk_51 (dk_at dksX1_word_1 9 rfl rfl)
theorem dX1_word_32 : decode cX1_word 32 = .ok (.sipush 255, 3) := dk_17 0 255 (dk_at dksX1_word_1 10 rfl rfl)
theorem dX1_word_35 : decode cX1_word 35 = .ok (.iand, 1) := dk_126 (dk_at dksX1_word_1 13 rfl rfl)
theorem dX1_word_36 : decode cX1_word 36 = .ok (.i2c, 1) := dk_146 (dk_at dksX1_word_1 14 rfl rfl)
theorem dX1_word_37 : decode cX1_word 37 = .ok (.invokevirtual 207, 3) := dk_182 0 207 (dk_at dksX1_word_1 15 rfl rfl)
theorem dX1_word_40 : decode cX1_word 40 = .ok (.pop, 1) := dk_87 (dk_at dksX1_word_1 18 rfl rfl)
theorem dX1_word_41 : decode cX1_word 41 = .ok (.iinc 3 1, 3) := dk_132 3 1 (dk_at dksX1_word_1 19 rfl rfl)
theorem dX1_word_44 : decode cX1_word 44 = .ok (.goto (-29), 3) := dk_167 255 227 (dk_at dksX1_word_2 0 rfl rfl)
theorem dX1_word_47 : decode cX1_word 47 = .ok (.aload_n 2, 1) := dk_44 (dk_at dksX1_word_2 3 rfl rfl)
theorem dX1_word_48 : decode cX1_word 48 = .ok (.invokevirtual 211, 3) := dk_182 0 211 (dk_at dksX1_word_2 4 rfl rfl)
theorem dX1_word_51 : decode cX1_word 51 = .ok (.areturn, 1) := dk_176 (dk_at dksX1_word_2 7 rfl rfl)
abbrev cX1_roomOf : ByteArray := prog_1_method_12_code
def yX1_roomOf : MethodName := ⟨RX1, "roomOf", "(Ljava/lang/String;)LWasteHouse$Room;"⟩
def dkwX1_roomOf_1 : List UInt8 := [192, 0, 240, 78, 45, 180, 0, 242, 43, 182, 0, 246, 153, 0, 5, 45, 176, 167, 255, 224, 1, 176]
abbrev dktX1_roomOf_1 : List UInt8 := dkwX1_roomOf_1 ++ []
def dkwX1_roomOf_0 : List UInt8 := [42, 180, 0, 88, 182, 0, 226, 77, 44, 185, 0, 230, 1, 0, 153, 0, 29, 44, 185, 0, 236, 1, 0]
abbrev dktX1_roomOf_0 : List UInt8 := dkwX1_roomOf_0 ++ dktX1_roomOf_1
theorem dksX1_roomOf_0 : cX1_roomOf.data.toList.drop 0 = dktX1_roomOf_0 := by decide +kernel
theorem dksX1_roomOf_1 : cX1_roomOf.data.toList.drop 23 = dktX1_roomOf_1 := dk_seg dksX1_roomOf_0 23 rfl rfl
theorem dX1_roomOf_0 : decode cX1_roomOf 0 = .ok (.aload_n 0, 1) := dk_42 (dk_at dksX1_roomOf_0 0 rfl rfl)
theorem dX1_roomOf_1 : decode cX1_roomOf 1 = .ok (.getfield 88, 3) := dk_180 0 88 (dk_at dksX1_roomOf_0 1 rfl rfl)
theorem dX1_roomOf_4 : decode cX1_roomOf 4 = .ok (.invokevirtual 226, 3) := dk_182 0 226 (dk_at dksX1_roomOf_0 4 rfl rfl)
theorem dX1_roomOf_7 : decode cX1_roomOf 7 = .ok (.astore_n 2, 1) := dk_77 (dk_at dksX1_roomOf_0 7 rfl rfl)
theorem dX1_roomOf_8 : decode cX1_roomOf 8 = .ok (.aload_n 2, 1) := dk_44 (dk_at dksX1_roomOf_0 8 rfl rfl)
theorem dX1_roomOf_9 : decode cX1_roomOf 9 = .ok (.invokeinterface 230 1, 5) := by decide +kernel
theorem dX1_roomOf_14 : decode cX1_roomOf 14 = .ok (.ifCond .eq 29, 3) := dk_153 0 29 (dk_at dksX1_roomOf_0 14 rfl rfl)
theorem dX1_roomOf_17 : decode cX1_roomOf 17 = .ok (.aload_n 2, 1) := dk_44 (dk_at dksX1_roomOf_0 17 rfl rfl)
theorem dX1_roomOf_18 : decode cX1_roomOf 18 = .ok (.invokeinterface 236 1, 5) := by decide +kernel
theorem dX1_roomOf_23 : decode cX1_roomOf 23 = .ok (.checkcast 240, 3) := dk_192 0 240 (dk_at dksX1_roomOf_1 0 rfl rfl)
theorem dX1_roomOf_26 : decode cX1_roomOf 26 = .ok (.astore_n 3, 1) := dk_78 (dk_at dksX1_roomOf_1 3 rfl rfl)
theorem dX1_roomOf_27 : decode cX1_roomOf 27 = .ok (.aload_n 3, 1) := dk_45 (dk_at dksX1_roomOf_1 4 rfl rfl)
theorem dX1_roomOf_28 : decode cX1_roomOf 28 = .ok (.getfield 242, 3) := dk_180 0 242 (dk_at dksX1_roomOf_1 5 rfl rfl)
theorem dX1_roomOf_31 : decode cX1_roomOf 31 = .ok (.aload_n 1, 1) := dk_43 (dk_at dksX1_roomOf_1 8 rfl rfl)
theorem dX1_roomOf_32 : decode cX1_roomOf 32 = .ok (.invokevirtual 246, 3) := dk_182 0 246 (dk_at dksX1_roomOf_1 9 rfl rfl)
theorem dX1_roomOf_35 : decode cX1_roomOf 35 = .ok (.ifCond .eq 5, 3) := dk_153 0 5 (dk_at dksX1_roomOf_1 12 rfl rfl)
theorem dX1_roomOf_38 : decode cX1_roomOf 38 = .ok (.aload_n 3, 1) := dk_45 (dk_at dksX1_roomOf_1 15 rfl rfl)
theorem dX1_roomOf_39 : decode cX1_roomOf 39 = .ok (.areturn, 1) := dk_176 (dk_at dksX1_roomOf_1 16 rfl rfl)
theorem dX1_roomOf_40 : decode cX1_roomOf 40 = .ok (.goto (-32), 3) := dk_167 255 224 (dk_at dksX1_roomOf_1 17 rfl rfl)
theorem dX1_roomOf_43 : decode cX1_roomOf 43 = .ok (.aconst_null, 1) := dk_1 (dk_at dksX1_roomOf_1 20 rfl rfl)
theorem dX1_roomOf_44 : decode cX1_roomOf 44 = .ok (.areturn, 1) := dk_176 (dk_at dksX1_roomOf_1 21 rfl rfl)
abbrev cX1_tell : ByteArray := prog_1_method_13_code
def yX1_tell : MethodName := ⟨RX1, "tell", "(LWasteHouse$Room;)V"⟩
def dkwX1_tell_3 : List UInt8 := [132, 2, 1, 167, 255, 199, 177]
abbrev dktX1_tell_3 : List UInt8 := dkwX1_tell_3 ++ []
def dkwX1_tell_2 : List UInt8 := [87, 167, 0, 21, 42, 180, 0, 49, 42, 180, 0, 92, 28, 51, 17, 0, 255, 126, 182, 1, 3, 87]
abbrev dktX1_tell_2 : List UInt8 := dkwX1_tell_2 ++ dktX1_tell_3
def dkwX1_tell_1 : List UInt8 := [43, 193, 0, 132, 153, 0, 24, 42, 180, 0, 28, 42, 180, 0, 92, 28, 51, 17, 0, 255, 126, 182, 0, 255]
abbrev dktX1_tell_1 : List UInt8 := dkwX1_tell_1 ++ dktX1_tell_2
def dkwX1_tell_0 : List UInt8 := [42, 180, 0, 201, 42, 180, 0, 112, 4, 46, 4, 96, 184, 0, 249, 61, 28, 42, 180, 0, 201, 162, 0, 55]
abbrev dktX1_tell_0 : List UInt8 := dkwX1_tell_0 ++ dktX1_tell_1
theorem dksX1_tell_0 : cX1_tell.data.toList.drop 0 = dktX1_tell_0 := by decide +kernel
theorem dksX1_tell_1 : cX1_tell.data.toList.drop 24 = dktX1_tell_1 := dk_seg dksX1_tell_0 24 rfl rfl
theorem dksX1_tell_2 : cX1_tell.data.toList.drop 48 = dktX1_tell_2 := dk_seg dksX1_tell_1 24 rfl rfl
theorem dksX1_tell_3 : cX1_tell.data.toList.drop 70 = dktX1_tell_3 := dk_seg dksX1_tell_2 22 rfl rfl
theorem dX1_tell_0 : decode cX1_tell 0 = .ok (.aload_n 0, 1) := dk_42 (dk_at dksX1_tell_0 0 rfl rfl)
theorem dX1_tell_1 : decode cX1_tell 1 = .ok (.getfield 201, 3) := dk_180 0 201 (dk_at dksX1_tell_0 1 rfl rfl)
theorem dX1_tell_4 : decode cX1_tell 4 = .ok (.aload_n 0, 1) := dk_42 (dk_at dksX1_tell_0 4 rfl rfl)
theorem dX1_tell_5 : decode cX1_tell 5 = .ok (.getfield 112, 3) := dk_180 0 112 (dk_at dksX1_tell_0 5 rfl rfl)
theorem dX1_tell_8 : decode cX1_tell 8 = .ok (.iconst 1, 1) := dk_4 (dk_at dksX1_tell_0 8 rfl rfl)
theorem dX1_tell_9 : decode cX1_tell 9 = .ok (.iaload, 1) := dk_46 (dk_at dksX1_tell_0 9 rfl rfl)
theorem dX1_tell_10 : decode cX1_tell 10 = .ok (.iconst 1, 1) := dk_4 (dk_at dksX1_tell_0 10 rfl rfl)
theorem dX1_tell_11 : decode cX1_tell 11 = .ok (.iadd, 1) := dk_96 (dk_at dksX1_tell_0 11 rfl rfl)
theorem dX1_tell_12 : decode cX1_tell 12 = .ok (.invokestatic 249, 3) := dk_184 0 249 (dk_at dksX1_tell_0 12 rfl rfl)
theorem dX1_tell_15 : decode cX1_tell 15 = .ok (.istore_n 2, 1) := dk_61 (dk_at dksX1_tell_0 15 rfl rfl)
theorem dX1_tell_16 : decode cX1_tell 16 = .ok (.iload_n 2, 1) := dk_28 (dk_at dksX1_tell_0 16 rfl rfl)
theorem dX1_tell_17 : decode cX1_tell 17 = .ok (.aload_n 0, 1) := dk_42 (dk_at dksX1_tell_0 17 rfl rfl)
theorem dX1_tell_18 : decode cX1_tell 18 = .ok (.getfield 201, 3) := dk_180 0 201 (dk_at dksX1_tell_0 18 rfl rfl)
theorem dX1_tell_21 : decode cX1_tell 21 = .ok (.if_icmp .ge 55, 3) := dk_162 0 55 (dk_at dksX1_tell_0 21 rfl rfl)
theorem dX1_tell_24 : decode cX1_tell 24 = .ok (.aload_n 1, 1) := dk_43 (dk_at dksX1_tell_1 0 rfl rfl)
theorem dX1_tell_25 : decode cX1_tell 25 = .ok (.instanceof 132, 3) := dk_193 0 132 (dk_at dksX1_tell_1 1 rfl rfl)
theorem dX1_tell_28 : decode cX1_tell 28 = .ok (.ifCond .eq 24, 3) := dk_153 0 24 (dk_at dksX1_tell_1 4 rfl rfl)
theorem dX1_tell_31 : decode cX1_tell 31 = .ok (.aload_n 0, 1) := dk_42 (dk_at dksX1_tell_1 7 rfl rfl)
theorem dX1_tell_32 : decode cX1_tell 32 = .ok (.getfield 28, 3) := dk_180 0 28 (dk_at dksX1_tell_1 8 rfl rfl)
theorem dX1_tell_35 : decode cX1_tell 35 = .ok (.aload_n 0, 1) := dk_42 (dk_at dksX1_tell_1 11 rfl rfl)
theorem dX1_tell_36 : decode cX1_tell 36 = .ok (.getfield 92, 3) := dk_180 0 92 (dk_at dksX1_tell_1 12 rfl rfl)
theorem dX1_tell_39 : decode cX1_tell 39 = .ok (.iload_n 2, 1) := dk_28 (dk_at dksX1_tell_1 15 rfl rfl)
theorem dX1_tell_40 : decode cX1_tell 40 = .ok (.baload, 1) := dk_51 (dk_at dksX1_tell_1 16 rfl rfl)
theorem dX1_tell_41 : decode cX1_tell 41 = .ok (.sipush 255, 3) := dk_17 0 255 (dk_at dksX1_tell_1 17 rfl rfl)
theorem dX1_tell_44 : decode cX1_tell 44 = .ok (.iand, 1) := dk_126 (dk_at dksX1_tell_1 20 rfl rfl)
theorem dX1_tell_45 : decode cX1_tell 45 = .ok (.invokevirtual 255, 3) := dk_182 0 255 (dk_at dksX1_tell_1 21 rfl rfl)
theorem dX1_tell_48 : decode cX1_tell 48 = .ok (.pop, 1) := dk_87 (dk_at dksX1_tell_2 0 rfl rfl)
theorem dX1_tell_49 : decode cX1_tell 49 = .ok (.goto 21, 3) := dk_167 0 21 (dk_at dksX1_tell_2 1 rfl rfl)
theorem dX1_tell_52 : decode cX1_tell 52 = .ok (.aload_n 0, 1) := dk_42 (dk_at dksX1_tell_2 4 rfl rfl)
theorem dX1_tell_53 : decode cX1_tell 53 = .ok (.getfield 49, 3) := dk_180 0 49 (dk_at dksX1_tell_2 5 rfl rfl)
theorem dX1_tell_56 : decode cX1_tell 56 = .ok (.aload_n 0, 1) := dk_42 (dk_at dksX1_tell_2 8 rfl rfl)
theorem dX1_tell_57 : decode cX1_tell 57 = .ok (.getfield 92, 3) := dk_180 0 92 (dk_at dksX1_tell_2 9 rfl rfl)
theorem dX1_tell_60 : decode cX1_tell 60 = .ok (.iload_n 2, 1) := dk_28 (dk_at dksX1_tell_2 12 rfl rfl)
theorem dX1_tell_61 : decode cX1_tell 61 = .ok (.baload, 1) := dk_51 (dk_at dksX1_tell_2 13 rfl rfl)
theorem dX1_tell_62 : decode cX1_tell 62 = .ok (.sipush 255, 3) := dk_17 0 255 (dk_at dksX1_tell_2 14 rfl rfl)
theorem dX1_tell_65 : decode cX1_tell 65 = .ok (.iand, 1) := dk_126 (dk_at dksX1_tell_2 17 rfl rfl)
theorem dX1_tell_66 : decode cX1_tell 66 = .ok (.invokevirtual 259, 3) := dk_182 1 3 (dk_at dksX1_tell_2 18 rfl rfl)
theorem dX1_tell_69 : decode cX1_tell 69 = .ok (.pop, 1) := dk_87 (dk_at dksX1_tell_2 21 rfl rfl)
theorem dX1_tell_70 : decode cX1_tell 70 = .ok (.iinc 2 1, 3) := dk_132 2 1 (dk_at dksX1_tell_3 0 rfl rfl)
theorem dX1_tell_73 : decode cX1_tell 73 = .ok (.goto (-57), 3) := dk_167 255 199 (dk_at dksX1_tell_3 3 rfl rfl)
theorem dX1_tell_76 : decode cX1_tell 76 = .ok (.return_, 1) := dk_177 (dk_at dksX1_tell_3 6 rfl rfl)
abbrev cX1_reads : ByteArray := prog_1_method_11_code
def yX1_reads : MethodName := ⟨RX1, "reads", "(IIC)Z"⟩
def dkwX1_reads_7 : List UInt8 := [167, 0, 13, 22, 8, 22, 8, 136, 133, 148, 154, 0, 7, 4, 167, 0, 4, 3, 172]
abbrev dktX1_reads_7 : List UInt8 := dkwX1_reads_7 ++ []
def dkwX1_reads_6 : List UInt8 := [159, 0, 36, 29, 16, 98, 160, 0, 20, 22, 8, 9, 148, 153, 0, 23, 22, 8, 10, 148, 154, 0, 20]
abbrev dktX1_reads_6 : List UInt8 := dkwX1_reads_6 ++ dktX1_reads_7
def dkwX1_reads_5 : List UInt8 := [153, 0, 9, 22, 8, 117, 167, 0, 5, 22, 8, 55, 8, 42, 180, 0, 115, 28, 22, 8, 80, 29, 16, 108]
abbrev dktX1_reads_5 : List UInt8 := dkwX1_reads_5 ++ dktX1_reads_6
def dkwX1_reads_4 : List UInt8 := [148, 155, 0, 5, 3, 172, 21, 6, 153, 0, 14, 42, 180, 0, 100, 22, 8, 136, 47, 167, 0, 16, 21, 7]
abbrev dktX1_reads_4 : List UInt8 := dkwX1_reads_4 ++ dktX1_reads_5
def dkwX1_reads_3 : List UInt8 := [182, 0, 219, 55, 8, 22, 8, 9, 148, 155, 0, 19, 21, 6, 153, 0, 16, 22, 8, 42, 180, 0, 223, 133]
abbrev dktX1_reads_3 : List UInt8 := dkwX1_reads_3 ++ dktX1_reads_4
def dkwX1_reads_2 : List UInt8 := [154, 0, 8, 21, 7, 153, 0, 10, 21, 4, 4, 96, 167, 0, 5, 21, 4, 42, 180, 0, 112, 27, 46]
abbrev dktX1_reads_2 : List UInt8 := dkwX1_reads_2 ++ dktX1_reads_3
def dkwX1_reads_1 : List UInt8 := [4, 167, 0, 4, 3, 54, 6, 21, 5, 16, 45, 160, 0, 7, 4, 167, 0, 4, 3, 54, 7, 42, 21, 6]
abbrev dktX1_reads_1 : List UInt8 := dkwX1_reads_1 ++ dktX1_reads_2
def dkwX1_reads_0 : List UInt8 := [42, 180, 0, 108, 27, 46, 54, 4, 42, 180, 0, 92, 21, 4, 51, 54, 5, 21, 5, 16, 64, 160, 0, 7]
abbrev dktX1_reads_0 : List UInt8 := dkwX1_reads_0 ++ dktX1_reads_1
theorem dksX1_reads_0 : cX1_reads.data.toList.drop 0 = dktX1_reads_0 := by decide +kernel
theorem dksX1_reads_1 : cX1_reads.data.toList.drop 24 = dktX1_reads_1 := dk_seg dksX1_reads_0 24 rfl rfl
theorem dksX1_reads_2 : cX1_reads.data.toList.drop 48 = dktX1_reads_2 := dk_seg dksX1_reads_1 24 rfl rfl
theorem dksX1_reads_3 : cX1_reads.data.toList.drop 71 = dktX1_reads_3 := dk_seg dksX1_reads_2 23 rfl rfl
theorem dksX1_reads_4 : cX1_reads.data.toList.drop 95 = dktX1_reads_4 := dk_seg dksX1_reads_3 24 rfl rfl
theorem dksX1_reads_5 : cX1_reads.data.toList.drop 119 = dktX1_reads_5 := dk_seg dksX1_reads_4 24 rfl rfl
theorem dksX1_reads_6 : cX1_reads.data.toList.drop 143 = dktX1_reads_6 := dk_seg dksX1_reads_5 24 rfl rfl
theorem dksX1_reads_7 : cX1_reads.data.toList.drop 166 = dktX1_reads_7 := dk_seg dksX1_reads_6 23 rfl rfl
theorem dX1_reads_0 : decode cX1_reads 0 = .ok (.aload_n 0, 1) := dk_42 (dk_at dksX1_reads_0 0 rfl rfl)
theorem dX1_reads_1 : decode cX1_reads 1 = .ok (.getfield 108, 3) := dk_180 0 108 (dk_at dksX1_reads_0 1 rfl rfl)
theorem dX1_reads_4 : decode cX1_reads 4 = .ok (.iload_n 1, 1) := dk_27 (dk_at dksX1_reads_0 4 rfl rfl)
theorem dX1_reads_5 : decode cX1_reads 5 = .ok (.iaload, 1) := dk_46 (dk_at dksX1_reads_0 5 rfl rfl)
theorem dX1_reads_6 : decode cX1_reads 6 = .ok (.istore 4, 2) := dk_54 4 (dk_at dksX1_reads_0 6 rfl rfl)
theorem dX1_reads_8 : decode cX1_reads 8 = .ok (.aload_n 0, 1) := dk_42 (dk_at dksX1_reads_0 8 rfl rfl)
theorem dX1_reads_9 : decode cX1_reads 9 = .ok (.getfield 92, 3) := dk_180 0 92 (dk_at dksX1_reads_0 9 rfl rfl)
theorem dX1_reads_12 : decode cX1_reads 12 = .ok (.iload 4, 2) := dk_21 4 (dk_at dksX1_reads_0 12 rfl rfl)
theorem dX1_reads_14 : decode cX1_reads 14 = .ok (.baload, 1) := dk_51 (dk_at dksX1_reads_0 14 rfl rfl)
theorem dX1_reads_15 : decode cX1_reads 15 = .ok (.istore 5, 2) := dk_54 5 (dk_at dksX1_reads_0 15 rfl rfl)
theorem dX1_reads_17 : decode cX1_reads 17 = .ok (.iload 5, 2) := dk_21 5 (dk_at dksX1_reads_0 17 rfl rfl)
theorem dX1_reads_19 : decode cX1_reads 19 = .ok (.bipush 64, 2) := dk_16 64 (dk_at dksX1_reads_0 19 rfl rfl)
theorem dX1_reads_21 : decode cX1_reads 21 = .ok (.if_icmp .ne 7, 3) := dk_160 0 7 (dk_at dksX1_reads_0 21 rfl rfl)
theorem dX1_reads_24 : decode cX1_reads 24 = .ok (.iconst 1, 1) := dk_4 (dk_at dksX1_reads_1 0 rfl rfl)
theorem dX1_reads_25 : decode cX1_reads 25 = .ok (.goto 4, 3) := dk_167 0 4 (dk_at dksX1_reads_1 1 rfl rfl)
theorem dX1_reads_28 : decode cX1_reads 28 = .ok (.iconst 0, 1) := dk_3 (dk_at dksX1_reads_1 4 rfl rfl)
theorem dX1_reads_29 : decode cX1_reads 29 = .ok (.istore 6, 2) := dk_54 6 (dk_at dksX1_reads_1 5 rfl rfl)
theorem dX1_reads_31 : decode cX1_reads 31 = .ok (.iload 5, 2) := dk_21 5 (dk_at dksX1_reads_1 7 rfl rfl)
theorem dX1_reads_33 : decode cX1_reads 33 = .ok (.bipush 45, 2) := dk_16 45 (dk_at dksX1_reads_1 9 rfl rfl)
theorem dX1_reads_35 : decode cX1_reads 35 = .ok (.if_icmp .ne 7, 3) := dk_160 0 7 (dk_at dksX1_reads_1 11 rfl rfl)
theorem dX1_reads_38 : decode cX1_reads 38 = .ok (.iconst 1, 1) := dk_4 (dk_at dksX1_reads_1 14 rfl rfl)
theorem dX1_reads_39 : decode cX1_reads 39 = .ok (.goto 4, 3) := dk_167 0 4 (dk_at dksX1_reads_1 15 rfl rfl)
theorem dX1_reads_42 : decode cX1_reads 42 = .ok (.iconst 0, 1) := dk_3 (dk_at dksX1_reads_1 18 rfl rfl)
theorem dX1_reads_43 : decode cX1_reads 43 = .ok (.istore 7, 2) := dk_54 7 (dk_at dksX1_reads_1 19 rfl rfl)
theorem dX1_reads_45 : decode cX1_reads 45 = .ok (.aload_n 0, 1) := dk_42 (dk_at dksX1_reads_1 21 rfl rfl)
theorem dX1_reads_46 : decode cX1_reads 46 = .ok (.iload 6, 2) := dk_21 6 (dk_at dksX1_reads_1 22 rfl rfl)
theorem dX1_reads_48 : decode cX1_reads 48 = .ok (.ifCond .ne 8, 3) := dk_154 0 8 (dk_at dksX1_reads_2 0 rfl rfl)
theorem dX1_reads_51 : decode cX1_reads 51 = .ok (.iload 7, 2) := dk_21 7 (dk_at dksX1_reads_2 3 rfl rfl)
theorem dX1_reads_53 : decode cX1_reads 53 = .ok (.ifCond .eq 10, 3) := dk_153 0 10 (dk_at dksX1_reads_2 5 rfl rfl)
theorem dX1_reads_56 : decode cX1_reads 56 = .ok (.iload 4, 2) := dk_21 4 (dk_at dksX1_reads_2 8 rfl rfl)
theorem dX1_reads_58 : decode cX1_reads 58 = .ok (.iconst 1, 1) := dk_4 (dk_at dksX1_reads_2 10 rfl rfl)
theorem dX1_reads_59 : decode cX1_reads 59 = .ok (.iadd, 1) := dk_96 (dk_at dksX1_reads_2 11 rfl rfl)
theorem dX1_reads_60 : decode cX1_reads 60 = .ok (.goto 5, 3) := dk_167 0 5 (dk_at dksX1_reads_2 12 rfl rfl)
theorem dX1_reads_63 : decode cX1_reads 63 = .ok (.iload 4, 2) := dk_21 4 (dk_at dksX1_reads_2 15 rfl rfl)
theorem dX1_reads_65 : decode cX1_reads 65 = .ok (.aload_n 0, 1) := dk_42 (dk_at dksX1_reads_2 17 rfl rfl)
theorem dX1_reads_66 : decode cX1_reads 66 = .ok (.getfield 112, 3) := dk_180 0 112 (dk_at dksX1_reads_2 18 rfl rfl)
theorem dX1_reads_69 : decode cX1_reads 69 = .ok (.iload_n 1, 1) := dk_27 (dk_at dksX1_reads_2 21 rfl rfl)
theorem dX1_reads_70 : decode cX1_reads 70 = .ok (.iaload, 1) := dk_46 (dk_at dksX1_reads_2 22 rfl rfl)
theorem dX1_reads_71 : decode cX1_reads 71 = .ok (.invokevirtual 219, 3) := dk_182 0 219 (dk_at dksX1_reads_3 0 rfl rfl)
theorem dX1_reads_74 : decode cX1_reads 74 = .ok (.lstore 8, 2) := dk_55 8 (dk_at dksX1_reads_3 3 rfl rfl)
theorem dX1_reads_76 : decode cX1_reads 76 = .ok (.lload 8, 2) := dk_22 8 (dk_at dksX1_reads_3 5 rfl rfl)
theorem dX1_reads_78 : decode cX1_reads 78 = .ok (.lconst 0, 1) := dk_9 (dk_at dksX1_reads_3 7 rfl rfl)
theorem dX1_reads_79 : decode cX1_reads 79 = .ok (.lcmp, 1) := dk_148 (dk_at dksX1_reads_3 8 rfl rfl)
theorem dX1_reads_80 : decode cX1_reads 80 = .ok (.ifCond .lt 19, 3) := dk_155 0 19 (dk_at dksX1_reads_3 9 rfl rfl)
theorem dX1_reads_83 : decode cX1_reads 83 = .ok (.iload 6, 2) := dk_21 6 (dk_at dksX1_reads_3 12 rfl rfl)
theorem dX1_reads_85 : decode cX1_reads 85 = .ok (.ifCond .eq 16, 3) := dk_153 0 16 (dk_at dksX1_reads_3 14 rfl rfl)
theorem dX1_reads_88 : decode cX1_reads 88 = .ok (.lload 8, 2) := dk_22 8 (dk_at dksX1_reads_3 17 rfl rfl)
theorem dX1_reads_90 : decode cX1_reads 90 = .ok (.aload_n 0, 1) := dk_42 (dk_at dksX1_reads_3 19 rfl rfl)
theorem dX1_reads_91 : decode cX1_reads 91 = .ok (.getfield 223, 3) := dk_180 0 223 (dk_at dksX1_reads_3 20 rfl rfl)
theorem dX1_reads_94 : decode cX1_reads 94 = .ok (.i2l, 1) := dk_133 (dk_at dksX1_reads_3 23 rfl rfl)
theorem dX1_reads_95 : decode cX1_reads 95 = .ok (.lcmp, 1) := dk_148 (dk_at dksX1_reads_4 0 rfl rfl)
theorem dX1_reads_96 : decode cX1_reads 96 = .ok (.ifCond .lt 5, 3) := dk_155 0 5 (dk_at dksX1_reads_4 1 rfl rfl)
theorem dX1_reads_99 : decode cX1_reads 99 = .ok (.iconst 0, 1) := dk_3 (dk_at dksX1_reads_4 4 rfl rfl)
theorem dX1_reads_100 : decode cX1_reads 100 = .ok (.ireturn, 1) := dk_172 (dk_at dksX1_reads_4 5 rfl rfl)
theorem dX1_reads_101 : decode cX1_reads 101 = .ok (.iload 6, 2) := dk_21 6 (dk_at dksX1_reads_4 6 rfl rfl)
theorem dX1_reads_103 : decode cX1_reads 103 = .ok (.ifCond .eq 14, 3) := dk_153 0 14 (dk_at dksX1_reads_4 8 rfl rfl)
theorem dX1_reads_106 : decode cX1_reads 106 = .ok (.aload_n 0, 1) := dk_42 (dk_at dksX1_reads_4 11 rfl rfl)
theorem dX1_reads_107 : decode cX1_reads 107 = .ok (.getfield 100, 3) := dk_180 0 100 (dk_at dksX1_reads_4 12 rfl rfl)
theorem dX1_reads_110 : decode cX1_reads 110 = .ok (.lload 8, 2) := dk_22 8 (dk_at dksX1_reads_4 15 rfl rfl)
theorem dX1_reads_112 : decode cX1_reads 112 = .ok (.l2i, 1) := dk_136 (dk_at dksX1_reads_4 17 rfl rfl)
theorem dX1_reads_113 : decode cX1_reads 113 = .ok (.laload, 1) := dk_47 (dk_at dksX1_reads_4 18 rfl rfl)
theorem dX1_reads_114 : decode cX1_reads 114 = .ok (.goto 16, 3) := dk_167 0 16 (dk_at dksX1_reads_4 19 rfl rfl)
theorem dX1_reads_117 : decode cX1_reads 117 = .ok (.iload 7, 2) := dk_21 7 (dk_at dksX1_reads_4 22 rfl rfl)
theorem dX1_reads_119 : decode cX1_reads 119 = .ok (.ifCond .eq 9, 3) := dk_153 0 9 (dk_at dksX1_reads_5 0 rfl rfl)
theorem dX1_reads_122 : decode cX1_reads 122 = .ok (.lload 8, 2) := dk_22 8 (dk_at dksX1_reads_5 3 rfl rfl)
theorem dX1_reads_124 : decode cX1_reads 124 = .ok (.lneg, 1) := dk_117 (dk_at dksX1_reads_5 5 rfl rfl)
theorem dX1_reads_125 : decode cX1_reads 125 = .ok (.goto 5, 3) := dk_167 0 5 (dk_at dksX1_reads_5 6 rfl rfl)
theorem dX1_reads_128 : decode cX1_reads 128 = .ok (.lload 8, 2) := dk_22 8 (dk_at dksX1_reads_5 9 rfl rfl)
theorem dX1_reads_130 : decode cX1_reads 130 = .ok (.lstore 8, 2) := dk_55 8 (dk_at dksX1_reads_5 11 rfl rfl)
theorem dX1_reads_132 : decode cX1_reads 132 = .ok (.aload_n 0, 1) := dk_42 (dk_at dksX1_reads_5 13 rfl rfl)
theorem dX1_reads_133 : decode cX1_reads 133 = .ok (.getfield 115, 3) := dk_180 0 115 (dk_at dksX1_reads_5 14 rfl rfl)
theorem dX1_reads_136 : decode cX1_reads 136 = .ok (.iload_n 2, 1) := dk_28 (dk_at dksX1_reads_5 17 rfl rfl)
theorem dX1_reads_137 : decode cX1_reads 137 = .ok (.lload 8, 2) := dk_22 8 (dk_at dksX1_reads_5 18 rfl rfl)
theorem dX1_reads_139 : decode cX1_reads 139 = .ok (.lastore, 1) := dk_80 (dk_at dksX1_reads_5 20 rfl rfl)
theorem dX1_reads_140 : decode cX1_reads 140 = .ok (.iload_n 3, 1) := dk_29 (dk_at dksX1_reads_5 21 rfl rfl)
theorem dX1_reads_141 : decode cX1_reads 141 = .ok (.bipush 108, 2) := dk_16 108 (dk_at dksX1_reads_5 22 rfl rfl)
theorem dX1_reads_143 : decode cX1_reads 143 = .ok (.if_icmp .eq 36, 3) := dk_159 0 36 (dk_at dksX1_reads_6 0 rfl rfl)
theorem dX1_reads_146 : decode cX1_reads 146 = .ok (.iload_n 3, 1) := dk_29 (dk_at dksX1_reads_6 3 rfl rfl)
theorem dX1_reads_147 : decode cX1_reads 147 = .ok (.bipush 98, 2) := dk_16 98 (dk_at dksX1_reads_6 4 rfl rfl)
theorem dX1_reads_149 : decode cX1_reads 149 = .ok (.if_icmp .ne 20, 3) := dk_160 0 20 (dk_at dksX1_reads_6 6 rfl rfl)
theorem dX1_reads_152 : decode cX1_reads 152 = .ok (.lload 8, 2) := dk_22 8 (dk_at dksX1_reads_6 9 rfl rfl)
theorem dX1_reads_154 : decode cX1_reads 154 = .ok (.lconst 0, 1) := dk_9 (dk_at dksX1_reads_6 11 rfl rfl)
theorem dX1_reads_155 : decode cX1_reads 155 = .ok (.lcmp, 1) := dk_148 (dk_at dksX1_reads_6 12 rfl rfl)
theorem dX1_reads_156 : decode cX1_reads 156 = .ok (.ifCond .eq 23, 3) := dk_153 0 23 (dk_at dksX1_reads_6 13 rfl rfl)
theorem dX1_reads_159 : decode cX1_reads 159 = .ok (.lload 8, 2) := dk_22 8 (dk_at dksX1_reads_6 16 rfl rfl)
theorem dX1_reads_161 : decode cX1_reads 161 = .ok (.lconst 1, 1) := dk_10 (dk_at dksX1_reads_6 18 rfl rfl)
theorem dX1_reads_162 : decode cX1_reads 162 = .ok (.lcmp, 1) := dk_148 (dk_at dksX1_reads_6 19 rfl rfl)
theorem dX1_reads_163 : decode cX1_reads 163 = .ok (.ifCond .ne 20, 3) := dk_154 0 20 (dk_at dksX1_reads_6 20 rfl rfl)
theorem dX1_reads_166 : decode cX1_reads 166 = .ok (.goto 13, 3) := dk_167 0 13 (dk_at dksX1_reads_7 0 rfl rfl)
theorem dX1_reads_169 : decode cX1_reads 169 = .ok (.lload 8, 2) := dk_22 8 (dk_at dksX1_reads_7 3 rfl rfl)
theorem dX1_reads_171 : decode cX1_reads 171 = .ok (.lload 8, 2) := dk_22 8 (dk_at dksX1_reads_7 5 rfl rfl)
theorem dX1_reads_173 : decode cX1_reads 173 = .ok (.l2i, 1) := dk_136 (dk_at dksX1_reads_7 7 rfl rfl)
theorem dX1_reads_174 : decode cX1_reads 174 = .ok (.i2l, 1) := dk_133 (dk_at dksX1_reads_7 8 rfl rfl)
theorem dX1_reads_175 : decode cX1_reads 175 = .ok (.lcmp, 1) := dk_148 (dk_at dksX1_reads_7 9 rfl rfl)
theorem dX1_reads_176 : decode cX1_reads 176 = .ok (.ifCond .ne 7, 3) := dk_154 0 7 (dk_at dksX1_reads_7 10 rfl rfl)
theorem dX1_reads_179 : decode cX1_reads 179 = .ok (.iconst 1, 1) := dk_4 (dk_at dksX1_reads_7 13 rfl rfl)
theorem dX1_reads_180 : decode cX1_reads 180 = .ok (.goto 4, 3) := dk_167 0 4 (dk_at dksX1_reads_7 14 rfl rfl)
theorem dX1_reads_183 : decode cX1_reads 183 = .ok (.iconst 0, 1) := dk_3 (dk_at dksX1_reads_7 17 rfl rfl)
theorem dX1_reads_184 : decode cX1_reads 184 = .ok (.ireturn, 1) := dk_172 (dk_at dksX1_reads_7 18 rfl rfl)
abbrev cX1_digits : ByteArray := prog_1_method_10_code
def yX1_digits : MethodName := ⟨RX1, "digits", "(II)J"⟩
def dkwX1_digits_3 : List UInt8 := [21, 6, 133, 97, 66, 132, 5, 1, 167, 255, 201, 33, 173]
abbrev dktX1_digits_3 : List UInt8 := dkwX1_digits_3 ++ []
def dkwX1_digits_2 : List UInt8 := [21, 6, 155, 0, 10, 21, 6, 16, 9, 164, 0, 9, 20, 0, 215, 167, 0, 12, 20, 0, 217, 33, 105]
abbrev dktX1_digits_2 : List UInt8 := dkwX1_digits_2 ++ dktX1_digits_3
def dkwX1_digits_1 : List UInt8 := [21, 5, 28, 162, 0, 55, 33, 9, 148, 155, 0, 49, 42, 180, 0, 92, 21, 5, 51, 16, 48, 100, 54, 6]
abbrev dktX1_digits_1 : List UInt8 := dkwX1_digits_1 ++ dktX1_digits_2
def dkwX1_digits_0 : List UInt8 := [27, 28, 162, 0, 15, 28, 27, 100, 16, 18, 163, 0, 7, 9, 167, 0, 6, 20, 0, 215, 66, 27, 54, 5]
abbrev dktX1_digits_0 : List UInt8 := dkwX1_digits_0 ++ dktX1_digits_1
theorem dksX1_digits_0 : cX1_digits.data.toList.drop 0 = dktX1_digits_0 := by decide +kernel
theorem dksX1_digits_1 : cX1_digits.data.toList.drop 24 = dktX1_digits_1 := dk_seg dksX1_digits_0 24 rfl rfl
theorem dksX1_digits_2 : cX1_digits.data.toList.drop 48 = dktX1_digits_2 := dk_seg dksX1_digits_1 24 rfl rfl
theorem dksX1_digits_3 : cX1_digits.data.toList.drop 71 = dktX1_digits_3 := dk_seg dksX1_digits_2 23 rfl rfl
theorem dX1_digits_0 : decode cX1_digits 0 = .ok (.iload_n 1, 1) := dk_27 (dk_at dksX1_digits_0 0 rfl rfl)
theorem dX1_digits_1 : decode cX1_digits 1 = .ok (.iload_n 2, 1) := dk_28 (dk_at dksX1_digits_0 1 rfl rfl)
theorem dX1_digits_2 : decode cX1_digits 2 = .ok (.if_icmp .ge 15, 3) := dk_162 0 15 (dk_at dksX1_digits_0 2 rfl rfl)
theorem dX1_digits_5 : decode cX1_digits 5 = .ok (.iload_n 2, 1) := dk_28 (dk_at dksX1_digits_0 5 rfl rfl)
theorem dX1_digits_6 : decode cX1_digits 6 = .ok (.iload_n 1, 1) := dk_27 (dk_at dksX1_digits_0 6 rfl rfl)
theorem dX1_digits_7 : decode cX1_digits 7 = .ok (.isub, 1) := dk_100 (dk_at dksX1_digits_0 7 rfl rfl)
theorem dX1_digits_8 : decode cX1_digits 8 = .ok (.bipush 18, 2) := dk_16 18 (dk_at dksX1_digits_0 8 rfl rfl)
theorem dX1_digits_10 : decode cX1_digits 10 = .ok (.if_icmp .gt 7, 3) := dk_163 0 7 (dk_at dksX1_digits_0 10 rfl rfl)
theorem dX1_digits_13 : decode cX1_digits 13 = .ok (.lconst 0, 1) := dk_9 (dk_at dksX1_digits_0 13 rfl rfl)
theorem dX1_digits_14 : decode cX1_digits 14 = .ok (.goto 6, 3) := dk_167 0 6 (dk_at dksX1_digits_0 14 rfl rfl)
theorem dX1_digits_17 : decode cX1_digits 17 = .ok (.ldc2_w 215, 3) := dk_20 0 215 (dk_at dksX1_digits_0 17 rfl rfl)
theorem dX1_digits_20 : decode cX1_digits 20 = .ok (.lstore_n 3, 1) := dk_66 (dk_at dksX1_digits_0 20 rfl rfl)
theorem dX1_digits_21 : decode cX1_digits 21 = .ok (.iload_n 1, 1) := dk_27 (dk_at dksX1_digits_0 21 rfl rfl)
theorem dX1_digits_22 : decode cX1_digits 22 = .ok (.istore 5, 2) := dk_54 5 (dk_at dksX1_digits_0 22 rfl rfl)
theorem dX1_digits_24 : decode cX1_digits 24 = .ok (.iload 5, 2) := dk_21 5 (dk_at dksX1_digits_1 0 rfl rfl)
theorem dX1_digits_26 : decode cX1_digits 26 = .ok (.iload_n 2, 1) := dk_28 (dk_at dksX1_digits_1 2 rfl rfl)
theorem dX1_digits_27 : decode cX1_digits 27 = .ok (.if_icmp .ge 55, 3) := dk_162 0 55 (dk_at dksX1_digits_1 3 rfl rfl)
theorem dX1_digits_30 : decode cX1_digits 30 = .ok (.lload_n 3, 1) := dk_33 (dk_at dksX1_digits_1 6 rfl rfl)
theorem dX1_digits_31 : decode cX1_digits 31 = .ok (.lconst 0, 1) := dk_9 (dk_at dksX1_digits_1 7 rfl rfl)
theorem dX1_digits_32 : decode cX1_digits 32 = .ok (.lcmp, 1) := dk_148 (dk_at dksX1_digits_1 8 rfl rfl)
theorem dX1_digits_33 : decode cX1_digits 33 = .ok (.ifCond .lt 49, 3) := dk_155 0 49 (dk_at dksX1_digits_1 9 rfl rfl)
theorem dX1_digits_36 : decode cX1_digits 36 = .ok (.aload_n 0, 1) := dk_42 (dk_at dksX1_digits_1 12 rfl rfl)
theorem dX1_digits_37 : decode cX1_digits 37 = .ok (.getfield 92, 3) := dk_180 0 92 (dk_at dksX1_digits_1 13 rfl rfl)
theorem dX1_digits_40 : decode cX1_digits 40 = .ok (.iload 5, 2) := dk_21 5 (dk_at dksX1_digits_1 16 rfl rfl)
theorem dX1_digits_42 : decode cX1_digits 42 = .ok (.baload, 1) := dk_51 (dk_at dksX1_digits_1 18 rfl rfl)
theorem dX1_digits_43 : decode cX1_digits 43 = .ok (.bipush 48, 2) := dk_16 48 (dk_at dksX1_digits_1 19 rfl rfl)
theorem dX1_digits_45 : decode cX1_digits 45 = .ok (.isub, 1) := dk_100 (dk_at dksX1_digits_1 21 rfl rfl)
theorem dX1_digits_46 : decode cX1_digits 46 = .ok (.istore 6, 2) := dk_54 6 (dk_at dksX1_digits_1 22 rfl rfl)
theorem dX1_digits_48 : decode cX1_digits 48 = .ok (.iload 6, 2) := dk_21 6 (dk_at dksX1_digits_2 0 rfl rfl)
theorem dX1_digits_50 : decode cX1_digits 50 = .ok (.ifCond .lt 10, 3) := dk_155 0 10 (dk_at dksX1_digits_2 2 rfl rfl)
theorem dX1_digits_53 : decode cX1_digits 53 = .ok (.iload 6, 2) := dk_21 6 (dk_at dksX1_digits_2 5 rfl rfl)
theorem dX1_digits_55 : decode cX1_digits 55 = .ok (.bipush 9, 2) := dk_16 9 (dk_at dksX1_digits_2 7 rfl rfl)
theorem dX1_digits_57 : decode cX1_digits 57 = .ok (.if_icmp .le 9, 3) := dk_164 0 9 (dk_at dksX1_digits_2 9 rfl rfl)
theorem dX1_digits_60 : decode cX1_digits 60 = .ok (.ldc2_w 215, 3) := dk_20 0 215 (dk_at dksX1_digits_2 12 rfl rfl)
theorem dX1_digits_63 : decode cX1_digits 63 = .ok (.goto 12, 3) := dk_167 0 12 (dk_at dksX1_digits_2 15 rfl rfl)
theorem dX1_digits_66 : decode cX1_digits 66 = .ok (.ldc2_w 217, 3) := dk_20 0 217 (dk_at dksX1_digits_2 18 rfl rfl)
theorem dX1_digits_69 : decode cX1_digits 69 = .ok (.lload_n 3, 1) := dk_33 (dk_at dksX1_digits_2 21 rfl rfl)
theorem dX1_digits_70 : decode cX1_digits 70 = .ok (.lmul, 1) := dk_105 (dk_at dksX1_digits_2 22 rfl rfl)
theorem dX1_digits_71 : decode cX1_digits 71 = .ok (.iload 6, 2) := dk_21 6 (dk_at dksX1_digits_3 0 rfl rfl)
theorem dX1_digits_73 : decode cX1_digits 73 = .ok (.i2l, 1) := dk_133 (dk_at dksX1_digits_3 2 rfl rfl)
theorem dX1_digits_74 : decode cX1_digits 74 = .ok (.ladd, 1) := dk_97 (dk_at dksX1_digits_3 3 rfl rfl)
theorem dX1_digits_75 : decode cX1_digits 75 = .ok (.lstore_n 3, 1) := dk_66 (dk_at dksX1_digits_3 4 rfl rfl)
theorem dX1_digits_76 : decode cX1_digits 76 = .ok (.iinc 5 1, 3) := dk_132 5 1 (dk_at dksX1_digits_3 5 rfl rfl)
theorem dX1_digits_79 : decode cX1_digits 79 = .ok (.goto (-55), 3) := dk_167 255 201 (dk_at dksX1_digits_3 8 rfl rfl)
theorem dX1_digits_82 : decode cX1_digits 82 = .ok (.lload_n 3, 1) := dk_33 (dk_at dksX1_digits_3 11 rfl rfl)
theorem dX1_digits_83 : decode cX1_digits 83 = .ok (.lreturn, 1) := dk_173 (dk_at dksX1_digits_3 12 rfl rfl)
abbrev cX1_answer : ByteArray := prog_1_method_15_code
def yX1_answer : MethodName := ⟨RX1, "answer", "(LWasteHouse$Room;I)V"⟩
def dkwX1_answer_3 : List UInt8 := [42, 19, 1, 49, 182, 1, 46, 177]
abbrev dktX1_answer_3 : List UInt8 := dkwX1_answer_3 ++ []
def dkwX1_answer_2 : List UInt8 := [181, 0, 223, 33, 80, 42, 21, 5, 153, 0, 9, 19, 1, 39, 167, 0, 7, 33, 184, 1, 41, 182, 1, 46]
abbrev dktX1_answer_2 : List UInt8 := dkwX1_answer_2 ++ dktX1_answer_3
def dkwX1_answer_1 : List UInt8 := [54, 5, 167, 0, 8, 58, 6, 4, 54, 5, 42, 180, 0, 100, 42, 89, 180, 0, 223, 90, 4, 96]
abbrev dktX1_answer_1 : List UInt8 := dkwX1_answer_1 ++ dktX1_answer_2
def dkwX1_answer_0 : List UInt8 := [20, 0, 215, 66, 3, 54, 5, 43, 28, 42, 180, 0, 115, 182, 1, 33, 66, 167, 0, 16, 58, 6, 4]
abbrev dktX1_answer_0 : List UInt8 := dkwX1_answer_0 ++ dktX1_answer_1
theorem dksX1_answer_0 : cX1_answer.data.toList.drop 0 = dktX1_answer_0 := by decide +kernel
theorem dksX1_answer_1 : cX1_answer.data.toList.drop 23 = dktX1_answer_1 := dk_seg dksX1_answer_0 23 rfl rfl
theorem dksX1_answer_2 : cX1_answer.data.toList.drop 45 = dktX1_answer_2 := dk_seg dksX1_answer_1 22 rfl rfl
theorem dksX1_answer_3 : cX1_answer.data.toList.drop 69 = dktX1_answer_3 := dk_seg dksX1_answer_2 24 rfl rfl
theorem dX1_answer_0 : decode cX1_answer 0 = .ok (.ldc2_w 215, 3) := dk_20 0 215 (dk_at dksX1_answer_0 0 rfl rfl)
theorem dX1_answer_3 : decode cX1_answer 3 = .ok (.lstore_n 3, 1) := dk_66 (dk_at dksX1_answer_0 3 rfl rfl)
theorem dX1_answer_4 : decode cX1_answer 4 = .ok (.iconst 0, 1) := dk_3 (dk_at dksX1_answer_0 4 rfl rfl)
theorem dX1_answer_5 : decode cX1_answer 5 = .ok (.istore 5, 2) := dk_54 5 (dk_at dksX1_answer_0 5 rfl rfl)
theorem dX1_answer_7 : decode cX1_answer 7 = .ok (.aload_n 1, 1) := dk_43 (dk_at dksX1_answer_0 7 rfl rfl)
theorem dX1_answer_8 : decode cX1_answer 8 = .ok (.iload_n 2, 1) := dk_28 (dk_at dksX1_answer_0 8 rfl rfl)
theorem dX1_answer_9 : decode cX1_answer 9 = .ok (.aload_n 0, 1) := dk_42 (dk_at dksX1_answer_0 9 rfl rfl)
theorem dX1_answer_10 : decode cX1_answer 10 = .ok (.getfield 115, 3) := dk_180 0 115 (dk_at dksX1_answer_0 10 rfl rfl)
theorem dX1_answer_13 : decode cX1_answer 13 = .ok (.invokevirtual 289, 3) := dk_182 1 33 (dk_at dksX1_answer_0 13 rfl rfl)
theorem dX1_answer_16 : decode cX1_answer 16 = .ok (.lstore_n 3, 1) := dk_66 (dk_at dksX1_answer_0 16 rfl rfl)
theorem dX1_answer_17 : decode cX1_answer 17 = .ok (.goto 16, 3) := dk_167 0 16 (dk_at dksX1_answer_0 17 rfl rfl)
theorem dX1_answer_20 : decode cX1_answer 20 = .ok (.astore 6, 2) := dk_58 6 (dk_at dksX1_answer_0 20 rfl rfl)
theorem dX1_answer_22 : decode cX1_answer 22 = .ok (.iconst 1, 1) := dk_4 (dk_at dksX1_answer_0 22 rfl rfl)
theorem dX1_answer_23 : decode cX1_answer 23 = .ok (.istore 5, 2) := dk_54 5 (dk_at dksX1_answer_1 0 rfl rfl)
theorem dX1_answer_25 : decode cX1_answer 25 = .ok (.goto 8, 3) := dk_167 0 8 (dk_at dksX1_answer_1 2 rfl rfl)
theorem dX1_answer_28 : decode cX1_answer 28 = .ok (.astore 6, 2) := dk_58 6 (dk_at dksX1_answer_1 5 rfl rfl)
theorem dX1_answer_30 : decode cX1_answer 30 = .ok (.iconst 1, 1) := dk_4 (dk_at dksX1_answer_1 7 rfl rfl)
theorem dX1_answer_31 : decode cX1_answer 31 = .ok (.istore 5, 2) := dk_54 5 (dk_at dksX1_answer_1 8 rfl rfl)
theorem dX1_answer_33 : decode cX1_answer 33 = .ok (.aload_n 0, 1) := dk_42 (dk_at dksX1_answer_1 10 rfl rfl)
theorem dX1_answer_34 : decode cX1_answer 34 = .ok (.getfield 100, 3) := dk_180 0 100 (dk_at dksX1_answer_1 11 rfl rfl)
theorem dX1_answer_37 : decode cX1_answer 37 = .ok (.aload_n 0, 1) := dk_42 (dk_at dksX1_answer_1 14 rfl rfl)
theorem dX1_answer_38 : decode cX1_answer 38 = .ok (.dup, 1) := dk_89 (dk_at dksX1_answer_1 15 rfl rfl)
theorem dX1_answer_39 : decode cX1_answer 39 = .ok (.getfield 223, 3) := dk_180 0 223 (dk_at dksX1_answer_1 16 rfl rfl)
theorem dX1_answer_42 : decode cX1_answer 42 = .ok (.dup_x1, 1) := dk_90 (dk_at dksX1_answer_1 19 rfl rfl)
theorem dX1_answer_43 : decode cX1_answer 43 = .ok (.iconst 1, 1) := dk_4 (dk_at dksX1_answer_1 20 rfl rfl)
theorem dX1_answer_44 : decode cX1_answer 44 = .ok (.iadd, 1) := dk_96 (dk_at dksX1_answer_1 21 rfl rfl)
theorem dX1_answer_45 : decode cX1_answer 45 = .ok (.putfield 223, 3) := dk_181 0 223 (dk_at dksX1_answer_2 0 rfl rfl)
theorem dX1_answer_48 : decode cX1_answer 48 = .ok (.lload_n 3, 1) := dk_33 (dk_at dksX1_answer_2 3 rfl rfl)
theorem dX1_answer_49 : decode cX1_answer 49 = .ok (.lastore, 1) := dk_80 (dk_at dksX1_answer_2 4 rfl rfl)
theorem dX1_answer_50 : decode cX1_answer 50 = .ok (.aload_n 0, 1) := dk_42 (dk_at dksX1_answer_2 5 rfl rfl)
theorem dX1_answer_51 : decode cX1_answer 51 = .ok (.iload 5, 2) := dk_21 5 (dk_at dksX1_answer_2 6 rfl rfl)
theorem dX1_answer_53 : decode cX1_answer 53 = .ok (.ifCond .eq 9, 3) := dk_153 0 9 (dk_at dksX1_answer_2 8 rfl rfl)
theorem dX1_answer_56 : decode cX1_answer 56 = .ok (.ldc_w 295, 3) := dk_19 1 39 (dk_at dksX1_answer_2 11 rfl rfl)
theorem dX1_answer_59 : decode cX1_answer 59 = .ok (.goto 7, 3) := dk_167 0 7 (dk_at dksX1_answer_2 14 rfl rfl)
theorem dX1_answer_62 : decode cX1_answer 62 = .ok (.lload_n 3, 1) := dk_33 (dk_at dksX1_answer_2 17 rfl rfl)
theorem dX1_answer_63 : decode cX1_answer 63 = .ok (.invokestatic 297, 3) := dk_184 1 41 (dk_at dksX1_answer_2 18 rfl rfl)
theorem dX1_answer_66 : decode cX1_answer 66 = .ok (.invokevirtual 302, 3) := dk_182 1 46 (dk_at dksX1_answer_2 21 rfl rfl)
theorem dX1_answer_69 : decode cX1_answer 69 = .ok (.aload_n 0, 1) := dk_42 (dk_at dksX1_answer_3 0 rfl rfl)
theorem dX1_answer_70 : decode cX1_answer 70 = .ok (.ldc_w 305, 3) := dk_19 1 49 (dk_at dksX1_answer_3 1 rfl rfl)
theorem dX1_answer_73 : decode cX1_answer 73 = .ok (.invokevirtual 302, 3) := dk_182 1 46 (dk_at dksX1_answer_3 4 rfl rfl)
theorem dX1_answer_76 : decode cX1_answer 76 = .ok (.return_, 1) := dk_177 (dk_at dksX1_answer_3 7 rfl rfl)
abbrev cX1_lay : ByteArray := prog_1_method_5_code
def yX1_lay : MethodName := ⟨RX1, "lay", "(Ljava/lang/String;)V"⟩
def dkwX1_lay_1 : List UInt8 := [181, 0, 191, 43, 28, 182, 0, 194, 145, 84, 132, 2, 1, 167, 255, 223, 177]
abbrev dktX1_lay_1 : List UInt8 := dkwX1_lay_1 ++ []
def dkwX1_lay_0 : List UInt8 := [3, 61, 28, 43, 182, 0, 185, 162, 0, 31, 42, 180, 0, 97, 42, 89, 180, 0, 191, 90, 4, 96]
abbrev dktX1_lay_0 : List UInt8 := dkwX1_lay_0 ++ dktX1_lay_1
theorem dksX1_lay_0 : cX1_lay.data.toList.drop 0 = dktX1_lay_0 := by decide +kernel
theorem dksX1_lay_1 : cX1_lay.data.toList.drop 22 = dktX1_lay_1 := dk_seg dksX1_lay_0 22 rfl rfl
theorem dX1_lay_0 : decode cX1_lay 0 = .ok (.iconst 0, 1) := dk_3 (dk_at dksX1_lay_0 0 rfl rfl)
theorem dX1_lay_1 : decode cX1_lay 1 = .ok (.istore_n 2, 1) := dk_61 (dk_at dksX1_lay_0 1 rfl rfl)
theorem dX1_lay_2 : decode cX1_lay 2 = .ok (.iload_n 2, 1) := dk_28 (dk_at dksX1_lay_0 2 rfl rfl)
theorem dX1_lay_3 : decode cX1_lay 3 = .ok (.aload_n 1, 1) := dk_43 (dk_at dksX1_lay_0 3 rfl rfl)
theorem dX1_lay_4 : decode cX1_lay 4 = .ok (.invokevirtual 185, 3) := dk_182 0 185 (dk_at dksX1_lay_0 4 rfl rfl)
theorem dX1_lay_7 : decode cX1_lay 7 = .ok (.if_icmp .ge 31, 3) := dk_162 0 31 (dk_at dksX1_lay_0 7 rfl rfl)
theorem dX1_lay_10 : decode cX1_lay 10 = .ok (.aload_n 0, 1) := dk_42 (dk_at dksX1_lay_0 10 rfl rfl)
theorem dX1_lay_11 : decode cX1_lay 11 = .ok (.getfield 97, 3) := dk_180 0 97 (dk_at dksX1_lay_0 11 rfl rfl)
theorem dX1_lay_14 : decode cX1_lay 14 = .ok (.aload_n 0, 1) := dk_42 (dk_at dksX1_lay_0 14 rfl rfl)
theorem dX1_lay_15 : decode cX1_lay 15 = .ok (.dup, 1) := dk_89 (dk_at dksX1_lay_0 15 rfl rfl)
theorem dX1_lay_16 : decode cX1_lay 16 = .ok (.getfield 191, 3) := dk_180 0 191 (dk_at dksX1_lay_0 16 rfl rfl)
theorem dX1_lay_19 : decode cX1_lay 19 = .ok (.dup_x1, 1) := dk_90 (dk_at dksX1_lay_0 19 rfl rfl)
theorem dX1_lay_20 : decode cX1_lay 20 = .ok (.iconst 1, 1) := dk_4 (dk_at dksX1_lay_0 20 rfl rfl)
theorem dX1_lay_21 : decode cX1_lay 21 = .ok (.iadd, 1) := dk_96 (dk_at dksX1_lay_0 21 rfl rfl)
theorem dX1_lay_22 : decode cX1_lay 22 = .ok (.putfield 191, 3) := dk_181 0 191 (dk_at dksX1_lay_1 0 rfl rfl)
theorem dX1_lay_25 : decode cX1_lay 25 = .ok (.aload_n 1, 1) := dk_43 (dk_at dksX1_lay_1 3 rfl rfl)
theorem dX1_lay_26 : decode cX1_lay 26 = .ok (.iload_n 2, 1) := dk_28 (dk_at dksX1_lay_1 4 rfl rfl)
theorem dX1_lay_27 : decode cX1_lay 27 = .ok (.invokevirtual 194, 3) := dk_182 0 194 (dk_at dksX1_lay_1 5 rfl rfl)
theorem dX1_lay_30 : decode cX1_lay 30 = .ok (.i2b, 1) := dk_145 (dk_at dksX1_lay_1 8 rfl rfl)
theorem dX1_lay_31 : decode cX1_lay 31 = .ok (.bastore, 1) := dk_84 (dk_at dksX1_lay_1 9 rfl rfl)
theorem dX1_lay_32 : decode cX1_lay 32 = .ok (.iinc 2 1, 3) := dk_132 2 1 (dk_at dksX1_lay_1 10 rfl rfl)
theorem dX1_lay_35 : decode cX1_lay 35 = .ok (.goto (-33), 3) := dk_167 255 223 (dk_at dksX1_lay_1 13 rfl rfl)
theorem dX1_lay_38 : decode cX1_lay 38 = .ok (.return_, 1) := dk_177 (dk_at dksX1_lay_1 16 rfl rfl)
abbrev cX1_wrong : ByteArray := prog_1_method_17_code
def yX1_wrong : MethodName := ⟨RX1, "wrong", "()I"⟩
theorem dX1_wrong_0 : decode cX1_wrong 0 = .ok (.aload_n 0, 1) := by decide +kernel
theorem dX1_wrong_1 : decode cX1_wrong 1 = .ok (.getfield 104, 3) := by decide +kernel
theorem dX1_wrong_4 : decode cX1_wrong 4 = .ok (.ireturn, 1) := by decide +kernel
abbrev cX1_answers : ByteArray := prog_1_method_18_code
def yX1_answers : MethodName := ⟨RX1, "answers", "()I"⟩
theorem dX1_answers_0 : decode cX1_answers 0 = .ok (.aload_n 0, 1) := by decide +kernel
theorem dX1_answers_1 : decode cX1_answers 1 = .ok (.getfield 223, 3) := by decide +kernel
theorem dX1_answers_4 : decode cX1_answers 4 = .ok (.ireturn, 1) := by decide +kernel
abbrev cX1_answer_2 : ByteArray := prog_1_method_19_code
def yX1_answer_2 : MethodName := ⟨RX1, "answer", "(I)J"⟩
def dkwX1_answer_2_1 : List UInt8 := [173]
abbrev dktX1_answer_2_1 : List UInt8 := dkwX1_answer_2_1 ++ []
def dkwX1_answer_2_0 : List UInt8 := [27, 155, 0, 20, 27, 42, 180, 0, 223, 162, 0, 12, 42, 180, 0, 100, 27, 47, 167, 0, 6, 20, 0, 215]
abbrev dktX1_answer_2_0 : List UInt8 := dkwX1_answer_2_0 ++ dktX1_answer_2_1
theorem dksX1_answer_2_0 : cX1_answer_2.data.toList.drop 0 = dktX1_answer_2_0 := by decide +kernel
theorem dksX1_answer_2_1 : cX1_answer_2.data.toList.drop 24 = dktX1_answer_2_1 := dk_seg dksX1_answer_2_0 24 rfl rfl
theorem dX1_answer_2_0 : decode cX1_answer_2 0 = .ok (.iload_n 1, 1) := dk_27 (dk_at dksX1_answer_2_0 0 rfl rfl)
theorem dX1_answer_2_1 : decode cX1_answer_2 1 = .ok (.ifCond .lt 20, 3) := dk_155 0 20 (dk_at dksX1_answer_2_0 1 rfl rfl)
theorem dX1_answer_2_4 : decode cX1_answer_2 4 = .ok (.iload_n 1, 1) := dk_27 (dk_at dksX1_answer_2_0 4 rfl rfl)
theorem dX1_answer_2_5 : decode cX1_answer_2 5 = .ok (.aload_n 0, 1) := dk_42 (dk_at dksX1_answer_2_0 5 rfl rfl)
theorem dX1_answer_2_6 : decode cX1_answer_2 6 = .ok (.getfield 223, 3) := dk_180 0 223 (dk_at dksX1_answer_2_0 6 rfl rfl)
theorem dX1_answer_2_9 : decode cX1_answer_2 9 = .ok (.if_icmp .ge 12, 3) := dk_162 0 12 (dk_at dksX1_answer_2_0 9 rfl rfl)
theorem dX1_answer_2_12 : decode cX1_answer_2 12 = .ok (.aload_n 0, 1) := dk_42 (dk_at dksX1_answer_2_0 12 rfl rfl)
theorem dX1_answer_2_13 : decode cX1_answer_2 13 = .ok (.getfield 100, 3) := dk_180 0 100 (dk_at dksX1_answer_2_0 13 rfl rfl)
theorem dX1_answer_2_16 : decode cX1_answer_2 16 = .ok (.iload_n 1, 1) := dk_27 (dk_at dksX1_answer_2_0 16 rfl rfl)
theorem dX1_answer_2_17 : decode cX1_answer_2 17 = .ok (.laload, 1) := dk_47 (dk_at dksX1_answer_2_0 17 rfl rfl)
theorem dX1_answer_2_18 : decode cX1_answer_2 18 = .ok (.goto 6, 3) := dk_167 0 6 (dk_at dksX1_answer_2_0 18 rfl rfl)
theorem dX1_answer_2_21 : decode cX1_answer_2 21 = .ok (.ldc2_w 215, 3) := dk_20 0 215 (dk_at dksX1_answer_2_0 21 rfl rfl)
theorem dX1_answer_2_24 : decode cX1_answer_2 24 = .ok (.lreturn, 1) := dk_173 (dk_at dksX1_answer_2_1 0 rfl rfl)
abbrev cX1_account : ByteArray := prog_1_method_20_code
def yX1_account : MethodName := ⟨RX1, "account", "(I)J"⟩
def dkwX1_account_1 : List UInt8 := [180, 1, 58, 180, 1, 62, 27, 47, 167, 0, 4, 9, 173]
abbrev dktX1_account_1 : List UInt8 := dkwX1_account_1 ++ []
def dkwX1_account_0 : List UInt8 := [27, 155, 0, 33, 27, 42, 180, 0, 81, 180, 1, 58, 180, 1, 62, 190, 162, 0, 18, 42, 180, 0, 81]
abbrev dktX1_account_0 : List UInt8 := dkwX1_account_0 ++ dktX1_account_1
theorem dksX1_account_0 : cX1_account.data.toList.drop 0 = dktX1_account_0 := by decide +kernel
theorem dksX1_account_1 : cX1_account.data.toList.drop 23 = dktX1_account_1 := dk_seg dksX1_account_0 23 rfl rfl
theorem dX1_account_0 : decode cX1_account 0 = .ok (.iload_n 1, 1) := dk_27 (dk_at dksX1_account_0 0 rfl rfl)
theorem dX1_account_1 : decode cX1_account 1 = .ok (.ifCond .lt 33, 3) := dk_155 0 33 (dk_at dksX1_account_0 1 rfl rfl)
theorem dX1_account_4 : decode cX1_account 4 = .ok (.iload_n 1, 1) := dk_27 (dk_at dksX1_account_0 4 rfl rfl)
theorem dX1_account_5 : decode cX1_account 5 = .ok (.aload_n 0, 1) := dk_42 (dk_at dksX1_account_0 5 rfl rfl)
theorem dX1_account_6 : decode cX1_account 6 = .ok (.getfield 81, 3) := dk_180 0 81 (dk_at dksX1_account_0 6 rfl rfl)
theorem dX1_account_9 : decode cX1_account 9 = .ok (.getfield 314, 3) := dk_180 1 58 (dk_at dksX1_account_0 9 rfl rfl)
theorem dX1_account_12 : decode cX1_account 12 = .ok (.getfield 318, 3) := dk_180 1 62 (dk_at dksX1_account_0 12 rfl rfl)
theorem dX1_account_15 : decode cX1_account 15 = .ok (.arraylength, 1) := dk_190 (dk_at dksX1_account_0 15 rfl rfl)
theorem dX1_account_16 : decode cX1_account 16 = .ok (.if_icmp .ge 18, 3) := dk_162 0 18 (dk_at dksX1_account_0 16 rfl rfl)
theorem dX1_account_19 : decode cX1_account 19 = .ok (.aload_n 0, 1) := dk_42 (dk_at dksX1_account_0 19 rfl rfl)
theorem dX1_account_20 : decode cX1_account 20 = .ok (.getfield 81, 3) := dk_180 0 81 (dk_at dksX1_account_0 20 rfl rfl)
theorem dX1_account_23 : decode cX1_account 23 = .ok (.getfield 314, 3) := dk_180 1 58 (dk_at dksX1_account_1 0 rfl rfl)
theorem dX1_account_26 : decode cX1_account 26 = .ok (.getfield 318, 3) := dk_180 1 62 (dk_at dksX1_account_1 3 rfl rfl)
theorem dX1_account_29 : decode cX1_account 29 = .ok (.iload_n 1, 1) := dk_27 (dk_at dksX1_account_1 6 rfl rfl)
theorem dX1_account_30 : decode cX1_account 30 = .ok (.laload, 1) := dk_47 (dk_at dksX1_account_1 7 rfl rfl)
theorem dX1_account_31 : decode cX1_account 31 = .ok (.goto 4, 3) := dk_167 0 4 (dk_at dksX1_account_1 8 rfl rfl)
theorem dX1_account_34 : decode cX1_account 34 = .ok (.lconst 0, 1) := dk_9 (dk_at dksX1_account_1 11 rfl rfl)
theorem dX1_account_35 : decode cX1_account 35 = .ok (.lreturn, 1) := dk_173 (dk_at dksX1_account_1 12 rfl rfl)
abbrev cX1_sound : ByteArray := prog_1_method_21_code
def yX1_sound : MethodName := ⟨RX1, "sound", "()Z"⟩
def dkwX1_sound_0 : List UInt8 := [42, 180, 0, 81, 16, 12, 42, 180, 0, 115, 182, 1, 67, 10, 148, 154, 0, 7, 4, 167, 0, 4, 3, 172]
abbrev dktX1_sound_0 : List UInt8 := dkwX1_sound_0 ++ []
theorem dksX1_sound_0 : cX1_sound.data.toList.drop 0 = dktX1_sound_0 := by decide +kernel
theorem dX1_sound_0 : decode cX1_sound 0 = .ok (.aload_n 0, 1) := dk_42 (dk_at dksX1_sound_0 0 rfl rfl)
theorem dX1_sound_1 : decode cX1_sound 1 = .ok (.getfield 81, 3) := dk_180 0 81 (dk_at dksX1_sound_0 1 rfl rfl)
theorem dX1_sound_4 : decode cX1_sound 4 = .ok (.bipush 12, 2) := dk_16 12 (dk_at dksX1_sound_0 4 rfl rfl)
theorem dX1_sound_6 : decode cX1_sound 6 = .ok (.aload_n 0, 1) := dk_42 (dk_at dksX1_sound_0 6 rfl rfl)
theorem dX1_sound_7 : decode cX1_sound 7 = .ok (.getfield 115, 3) := dk_180 0 115 (dk_at dksX1_sound_0 7 rfl rfl)
theorem dX1_sound_10 : decode cX1_sound 10 = .ok (.invokevirtual 323, 3) := dk_182 1 67 (dk_at dksX1_sound_0 10 rfl rfl)
theorem dX1_sound_13 : decode cX1_sound 13 = .ok (.lconst 1, 1) := dk_10 (dk_at dksX1_sound_0 13 rfl rfl)
theorem dX1_sound_14 : decode cX1_sound 14 = .ok (.lcmp, 1) := dk_148 (dk_at dksX1_sound_0 14 rfl rfl)
theorem dX1_sound_15 : decode cX1_sound 15 = .ok (.ifCond .ne 7, 3) := dk_154 0 7 (dk_at dksX1_sound_0 15 rfl rfl)
theorem dX1_sound_18 : decode cX1_sound 18 = .ok (.iconst 1, 1) := dk_4 (dk_at dksX1_sound_0 18 rfl rfl)
theorem dX1_sound_19 : decode cX1_sound 19 = .ok (.goto 4, 3) := dk_167 0 4 (dk_at dksX1_sound_0 19 rfl rfl)
theorem dX1_sound_22 : decode cX1_sound 22 = .ok (.iconst 0, 1) := dk_3 (dk_at dksX1_sound_0 22 rfl rfl)
theorem dX1_sound_23 : decode cX1_sound 23 = .ok (.ireturn, 1) := dk_172 (dk_at dksX1_sound_0 23 rfl rfl)
abbrev cX1_feed : ByteArray := prog_1_method_3_code
def yX1_feed : MethodName := ⟨RX1, "feed", "(IIIII)V"⟩
def dkwX1_feed_2 : List UInt8 := [182, 0, 177, 177]
abbrev dktX1_feed_2 : List UInt8 := dkwX1_feed_2 ++ []
def dkwX1_feed_1 : List UInt8 := [27, 182, 0, 177, 42, 28, 182, 0, 177, 42, 29, 182, 0, 177, 42, 21, 4, 182, 0, 177, 42, 21, 5]
abbrev dktX1_feed_1 : List UInt8 := dkwX1_feed_1 ++ dktX1_feed_2
def dkwX1_feed_0 : List UInt8 := [42, 180, 0, 167, 16, 20, 96, 17, 31, 64, 164, 0, 13, 187, 0, 170, 89, 18, 172, 183, 0, 174, 191, 42]
abbrev dktX1_feed_0 : List UInt8 := dkwX1_feed_0 ++ dktX1_feed_1
theorem dksX1_feed_0 : cX1_feed.data.toList.drop 0 = dktX1_feed_0 := by decide +kernel
theorem dksX1_feed_1 : cX1_feed.data.toList.drop 24 = dktX1_feed_1 := dk_seg dksX1_feed_0 24 rfl rfl
theorem dksX1_feed_2 : cX1_feed.data.toList.drop 47 = dktX1_feed_2 := dk_seg dksX1_feed_1 23 rfl rfl
theorem dX1_feed_0 : decode cX1_feed 0 = .ok (.aload_n 0, 1) := dk_42 (dk_at dksX1_feed_0 0 rfl rfl)
theorem dX1_feed_1 : decode cX1_feed 1 = .ok (.getfield 167, 3) := dk_180 0 167 (dk_at dksX1_feed_0 1 rfl rfl)
theorem dX1_feed_4 : decode cX1_feed 4 = .ok (.bipush 20, 2) := dk_16 20 (dk_at dksX1_feed_0 4 rfl rfl)
theorem dX1_feed_6 : decode cX1_feed 6 = .ok (.iadd, 1) := dk_96 (dk_at dksX1_feed_0 6 rfl rfl)
theorem dX1_feed_7 : decode cX1_feed 7 = .ok (.sipush 8000, 3) := dk_17 31 64 (dk_at dksX1_feed_0 7 rfl rfl)
theorem dX1_feed_10 : decode cX1_feed 10 = .ok (.if_icmp .le 13, 3) := dk_164 0 13 (dk_at dksX1_feed_0 10 rfl rfl)
theorem dX1_feed_13 : decode cX1_feed 13 = .ok (.new 170, 3) := dk_187 0 170 (dk_at dksX1_feed_0 13 rfl rfl)
theorem dX1_feed_16 : decode cX1_feed 16 = .ok (.dup, 1) := dk_89 (dk_at dksX1_feed_0 16 rfl rfl)
theorem dX1_feed_17 : decode cX1_feed 17 = .ok (.ldc 172, 2) := dk_18 172 (dk_at dksX1_feed_0 17 rfl rfl)
theorem dX1_feed_19 : decode cX1_feed 19 = .ok (.invokespecial 174, 3) := dk_183 0 174 (dk_at dksX1_feed_0 19 rfl rfl)
theorem dX1_feed_22 : decode cX1_feed 22 = .ok (.athrow, 1) := dk_191 (dk_at dksX1_feed_0 22 rfl rfl)
theorem dX1_feed_23 : decode cX1_feed 23 = .ok (.aload_n 0, 1) := dk_42 (dk_at dksX1_feed_0 23 rfl rfl)
theorem dX1_feed_24 : decode cX1_feed 24 = .ok (.iload_n 1, 1) := dk_27 (dk_at dksX1_feed_1 0 rfl rfl)
theorem dX1_feed_25 : decode cX1_feed 25 = .ok (.invokevirtual 177, 3) := dk_182 0 177 (dk_at dksX1_feed_1 1 rfl rfl)
theorem dX1_feed_28 : decode cX1_feed 28 = .ok (.aload_n 0, 1) := dk_42 (dk_at dksX1_feed_1 4 rfl rfl)
theorem dX1_feed_29 : decode cX1_feed 29 = .ok (.iload_n 2, 1) := dk_28 (dk_at dksX1_feed_1 5 rfl rfl)
theorem dX1_feed_30 : decode cX1_feed 30 = .ok (.invokevirtual 177, 3) := dk_182 0 177 (dk_at dksX1_feed_1 6 rfl rfl)
theorem dX1_feed_33 : decode cX1_feed 33 = .ok (.aload_n 0, 1) := dk_42 (dk_at dksX1_feed_1 9 rfl rfl)
theorem dX1_feed_34 : decode cX1_feed 34 = .ok (.iload_n 3, 1) := dk_29 (dk_at dksX1_feed_1 10 rfl rfl)
theorem dX1_feed_35 : decode cX1_feed 35 = .ok (.invokevirtual 177, 3) := dk_182 0 177 (dk_at dksX1_feed_1 11 rfl rfl)
theorem dX1_feed_38 : decode cX1_feed 38 = .ok (.aload_n 0, 1) := dk_42 (dk_at dksX1_feed_1 14 rfl rfl)
theorem dX1_feed_39 : decode cX1_feed 39 = .ok (.iload 4, 2) := dk_21 4 (dk_at dksX1_feed_1 15 rfl rfl)
theorem dX1_feed_41 : decode cX1_feed 41 = .ok (.invokevirtual 177, 3) := dk_182 0 177 (dk_at dksX1_feed_1 17 rfl rfl)
theorem dX1_feed_44 : decode cX1_feed 44 = .ok (.aload_n 0, 1) := dk_42 (dk_at dksX1_feed_1 20 rfl rfl)
theorem dX1_feed_45 : decode cX1_feed 45 = .ok (.iload 5, 2) := dk_21 5 (dk_at dksX1_feed_1 21 rfl rfl)
theorem dX1_feed_47 : decode cX1_feed 47 = .ok (.invokevirtual 177, 3) := dk_182 0 177 (dk_at dksX1_feed_2 0 rfl rfl)
theorem dX1_feed_50 : decode cX1_feed 50 = .ok (.return_, 1) := dk_177 (dk_at dksX1_feed_2 3 rfl rfl)
abbrev cX1_take : ByteArray := prog_1_method_2_code
def yX1_take : MethodName := ⟨RX1, "take", "(I)V"⟩
def dkwX1_take_1 : List UInt8 := [122, 145, 84, 132, 2, 248, 167, 255, 229, 177]
abbrev dktX1_take_1 : List UInt8 := dkwX1_take_1 ++ []
def dkwX1_take_0 : List UInt8 := [16, 24, 61, 28, 155, 0, 29, 42, 180, 0, 92, 42, 89, 180, 0, 167, 90, 4, 96, 181, 0, 167, 27, 28]
abbrev dktX1_take_0 : List UInt8 := dkwX1_take_0 ++ dktX1_take_1
theorem dksX1_take_0 : cX1_take.data.toList.drop 0 = dktX1_take_0 := by decide +kernel
theorem dksX1_take_1 : cX1_take.data.toList.drop 24 = dktX1_take_1 := dk_seg dksX1_take_0 24 rfl rfl
theorem dX1_take_0 : decode cX1_take 0 = .ok (.bipush 24, 2) := dk_16 24 (dk_at dksX1_take_0 0 rfl rfl)
theorem dX1_take_2 : decode cX1_take 2 = .ok (.istore_n 2, 1) := dk_61 (dk_at dksX1_take_0 2 rfl rfl)
theorem dX1_take_3 : decode cX1_take 3 = .ok (.iload_n 2, 1) := dk_28 (dk_at dksX1_take_0 3 rfl rfl)
theorem dX1_take_4 : decode cX1_take 4 = .ok (.ifCond .lt 29, 3) := dk_155 0 29 (dk_at dksX1_take_0 4 rfl rfl)
theorem dX1_take_7 : decode cX1_take 7 = .ok (.aload_n 0, 1) := dk_42 (dk_at dksX1_take_0 7 rfl rfl)
theorem dX1_take_8 : decode cX1_take 8 = .ok (.getfield 92, 3) := dk_180 0 92 (dk_at dksX1_take_0 8 rfl rfl)
theorem dX1_take_11 : decode cX1_take 11 = .ok (.aload_n 0, 1) := dk_42 (dk_at dksX1_take_0 11 rfl rfl)
theorem dX1_take_12 : decode cX1_take 12 = .ok (.dup, 1) := dk_89 (dk_at dksX1_take_0 12 rfl rfl)
theorem dX1_take_13 : decode cX1_take 13 = .ok (.getfield 167, 3) := dk_180 0 167 (dk_at dksX1_take_0 13 rfl rfl)
theorem dX1_take_16 : decode cX1_take 16 = .ok (.dup_x1, 1) := dk_90 (dk_at dksX1_take_0 16 rfl rfl)
theorem dX1_take_17 : decode cX1_take 17 = .ok (.iconst 1, 1) := dk_4 (dk_at dksX1_take_0 17 rfl rfl)
theorem dX1_take_18 : decode cX1_take 18 = .ok (.iadd, 1) := dk_96 (dk_at dksX1_take_0 18 rfl rfl)
theorem dX1_take_19 : decode cX1_take 19 = .ok (.putfield 167, 3) := dk_181 0 167 (dk_at dksX1_take_0 19 rfl rfl)
theorem dX1_take_22 : decode cX1_take 22 = .ok (.iload_n 1, 1) := dk_27 (dk_at dksX1_take_0 22 rfl rfl)
theorem dX1_take_23 : decode cX1_take 23 = .ok (.iload_n 2, 1) := dk_28 (dk_at dksX1_take_0 23 rfl rfl)
theorem dX1_take_24 : decode cX1_take 24 = .ok (.ishr, 1) := dk_122 (dk_at dksX1_take_1 0 rfl rfl)
theorem dX1_take_25 : decode cX1_take 25 = .ok (.i2b, 1) := dk_145 (dk_at dksX1_take_1 1 rfl rfl)
theorem dX1_take_26 : decode cX1_take 26 = .ok (.bastore, 1) := dk_84 (dk_at dksX1_take_1 2 rfl rfl)
theorem dX1_take_27 : decode cX1_take 27 = .ok (.iinc 2 (-8), 3) := dk_132 2 248 (dk_at dksX1_take_1 3 rfl rfl)
theorem dX1_take_30 : decode cX1_take 30 = .ok (.goto (-27), 3) := dk_167 255 229 (dk_at dksX1_take_1 6 rfl rfl)
theorem dX1_take_33 : decode cX1_take 33 = .ok (.return_, 1) := dk_177 (dk_at dksX1_take_1 9 rfl rfl)
abbrev cX1_end : ByteArray := prog_1_method_4_code
def yX1_end : MethodName := ⟨RX1, "end", "(I)I"⟩
def dkwX1_end_1 : List UInt8 := [180, 0, 167, 61, 42, 27, 181, 0, 167, 28, 172]
abbrev dktX1_end_1 : List UInt8 := dkwX1_end_1 ++ []
def dkwX1_end_0 : List UInt8 := [27, 155, 0, 11, 27, 42, 180, 0, 167, 164, 0, 13, 187, 0, 180, 89, 18, 182, 183, 0, 184, 191, 42]
abbrev dktX1_end_0 : List UInt8 := dkwX1_end_0 ++ dktX1_end_1
theorem dksX1_end_0 : cX1_end.data.toList.drop 0 = dktX1_end_0 := by decide +kernel
theorem dksX1_end_1 : cX1_end.data.toList.drop 23 = dktX1_end_1 := dk_seg dksX1_end_0 23 rfl rfl
theorem dX1_end_0 : decode cX1_end 0 = .ok (.iload_n 1, 1) := dk_27 (dk_at dksX1_end_0 0 rfl rfl)
theorem dX1_end_1 : decode cX1_end 1 = .ok (.ifCond .lt 11, 3) := dk_155 0 11 (dk_at dksX1_end_0 1 rfl rfl)
theorem dX1_end_4 : decode cX1_end 4 = .ok (.iload_n 1, 1) := dk_27 (dk_at dksX1_end_0 4 rfl rfl)
theorem dX1_end_5 : decode cX1_end 5 = .ok (.aload_n 0, 1) := dk_42 (dk_at dksX1_end_0 5 rfl rfl)
theorem dX1_end_6 : decode cX1_end 6 = .ok (.getfield 167, 3) := dk_180 0 167 (dk_at dksX1_end_0 6 rfl rfl)
theorem dX1_end_9 : decode cX1_end 9 = .ok (.if_icmp .le 13, 3) := dk_164 0 13 (dk_at dksX1_end_0 9 rfl rfl)
theorem dX1_end_12 : decode cX1_end 12 = .ok (.new 180, 3) := dk_187 0 180 (dk_at dksX1_end_0 12 rfl rfl)
theorem dX1_end_15 : decode cX1_end 15 = .ok (.dup, 1) := dk_89 (dk_at dksX1_end_0 15 rfl rfl)
theorem dX1_end_16 : decode cX1_end 16 = .ok (.ldc 182, 2) := dk_18 182 (dk_at dksX1_end_0 16 rfl rfl)
theorem dX1_end_18 : decode cX1_end 18 = .ok (.invokespecial 184, 3) := dk_183 0 184 (dk_at dksX1_end_0 18 rfl rfl)
theorem dX1_end_21 : decode cX1_end 21 = .ok (.athrow, 1) := dk_191 (dk_at dksX1_end_0 21 rfl rfl)
theorem dX1_end_22 : decode cX1_end 22 = .ok (.aload_n 0, 1) := dk_42 (dk_at dksX1_end_0 22 rfl rfl)
theorem dX1_end_23 : decode cX1_end 23 = .ok (.getfield 167, 3) := dk_180 0 167 (dk_at dksX1_end_1 0 rfl rfl)
theorem dX1_end_26 : decode cX1_end 26 = .ok (.istore_n 2, 1) := dk_61 (dk_at dksX1_end_1 3 rfl rfl)
theorem dX1_end_27 : decode cX1_end 27 = .ok (.aload_n 0, 1) := dk_42 (dk_at dksX1_end_1 4 rfl rfl)
theorem dX1_end_28 : decode cX1_end 28 = .ok (.iload_n 1, 1) := dk_27 (dk_at dksX1_end_1 5 rfl rfl)
theorem dX1_end_29 : decode cX1_end 29 = .ok (.putfield 167, 3) := dk_181 0 167 (dk_at dksX1_end_1 6 rfl rfl)
theorem dX1_end_32 : decode cX1_end 32 = .ok (.iload_n 2, 1) := dk_28 (dk_at dksX1_end_1 9 rfl rfl)
theorem dX1_end_33 : decode cX1_end 33 = .ok (.ireturn, 1) := dk_172 (dk_at dksX1_end_1 10 rfl rfl)
theorem q393 : (Jvm.Cond.initialized "WasteHouse") ∈ lw_all := lw_g (lw_at lw_m1 1 rfl) rfl
theorem q507 : (Jvm.Cond.instantiable "WasteHouse" (23 : Nat)) ∈ lw_all := lw_g (lw_at lw_m1 115 rfl) rfl
theorem q509 : (Jvm.Cond.instanceMethod ({ cls := "WasteHouse", name := "<init>", desc := "()V" } : Jvm.MethodName)) ∈ lw_all := lw_g (lw_at lw_m1 117 rfl) rfl
theorem q510 : (Jvm.Cond.code ({ cls := "WasteHouse", name := "<init>", desc := "()V" } : Jvm.MethodName) prog_1_method_1_code (1 : Nat) (Option.none : Option Jvm.ClassFile.FieldType)) ∈ lw_all := lw_g (lw_at lw_m1 118 rfl) rfl
theorem q511 : (Jvm.Cond.methodLink "WasteHouse" (1 : Nat) ({ cls := "java/lang/Object", name := "<init>", desc := "()V" } : Jvm.MethodName)) ∈ lw_all := lw_g (lw_at lw_m1 119 rfl) rfl
theorem q514 : (Jvm.Cond.classLink "WasteHouse" (7 : Nat) "WasteHouse$TicketChain") ∈ lw_all := lw_g (lw_at lw_m1 122 rfl) rfl
theorem q516 : (Jvm.Cond.methodLink "WasteHouse" (9 : Nat) ({ cls := "WasteHouse$TicketChain", name := "<init>", desc := "()V" } : Jvm.MethodName)) ∈ lw_all := lw_g (lw_at lw_m1 124 rfl) rfl
theorem q704 : (Jvm.Cond.classLink "WasteHouse" (16 : Nat) "WasteHouse$ShareSolve") ∈ lw_all := lw_g (lw_at lw_m2 72 rfl) rfl
theorem q706 : (Jvm.Cond.methodLink "WasteHouse" (18 : Nat) ({ cls := "WasteHouse$ShareSolve", name := "<init>", desc := "(I)V" } : Jvm.MethodName)) ∈ lw_all := lw_g (lw_at lw_m2 74 rfl) rfl
theorem q915 : (Jvm.Cond.classLink "WasteHouse" (25 : Nat) "WasteHouse$HazardRules") ∈ lw_all := lw_g (lw_at lw_m3 43 rfl) rfl
theorem q917 : (Jvm.Cond.methodLink "WasteHouse" (27 : Nat) ({ cls := "WasteHouse$HazardRules", name := "<init>", desc := "()V" } : Jvm.MethodName)) ∈ lw_all := lw_g (lw_at lw_m3 45 rfl) rfl
theorem q1137 : (Jvm.Cond.classLink "WasteHouse" (32 : Nat) "WasteHouse$RoundColumns") ∈ lw_all := lw_g (lw_at lw_m4 25 rfl) rfl
theorem q1139 : (Jvm.Cond.methodLink "WasteHouse" (34 : Nat) ({ cls := "WasteHouse$RoundColumns", name := "<init>", desc := "()V" } : Jvm.MethodName)) ∈ lw_all := lw_g (lw_at lw_m4 27 rfl) rfl
theorem q1299 : (Jvm.Cond.classLink "WasteHouse" (39 : Nat) "WasteHouse$BarredStores") ∈ lw_all := lw_g (lw_at lw_m4 187 rfl) rfl
theorem q1301 : (Jvm.Cond.methodLink "WasteHouse" (41 : Nat) ({ cls := "WasteHouse$BarredStores", name := "<init>", desc := "()V" } : Jvm.MethodName)) ∈ lw_all := lw_g (lw_at lw_m4 189 rfl) rfl
theorem q1405 : (Jvm.Cond.classLink "WasteHouse" (46 : Nat) "WasteHouse$PartGraphs") ∈ lw_all := lw_g (lw_at lw_m5 53 rfl) rfl
theorem q1407 : (Jvm.Cond.methodLink "WasteHouse" (48 : Nat) ({ cls := "WasteHouse$PartGraphs", name := "<init>", desc := "()V" } : Jvm.MethodName)) ∈ lw_all := lw_g (lw_at lw_m5 55 rfl) rfl
theorem q1525 : (Jvm.Cond.classLink "WasteHouse" (53 : Nat) "WasteHouse$ApartCost") ∈ lw_all := lw_g (lw_at lw_m5 173 rfl) rfl
theorem q1527 : (Jvm.Cond.methodLink "WasteHouse" (55 : Nat) ({ cls := "WasteHouse$ApartCost", name := "<init>", desc := "()V" } : Jvm.MethodName)) ∈ lw_all := lw_g (lw_at lw_m5 175 rfl) rfl
theorem q1634 : (Jvm.Cond.classLink "WasteHouse" (60 : Nat) "WasteHouse$PurityOdds") ∈ lw_all := lw_g (lw_at lw_m6 42 rfl) rfl
theorem q1636 : (Jvm.Cond.methodLink "WasteHouse" (62 : Nat) ({ cls := "WasteHouse$PurityOdds", name := "<init>", desc := "(J)V" } : Jvm.MethodName)) ∈ lw_all := lw_g (lw_at lw_m6 44 rfl) rfl
theorem q1761 : (Jvm.Cond.classLink "WasteHouse" (69 : Nat) "WasteHouse$DepositCodes") ∈ lw_all := lw_g (lw_at lw_m6 169 rfl) rfl
theorem q1763 : (Jvm.Cond.methodLink "WasteHouse" (71 : Nat) ({ cls := "WasteHouse$DepositCodes", name := "<init>", desc := "()V" } : Jvm.MethodName)) ∈ lw_all := lw_g (lw_at lw_m6 171 rfl) rfl
theorem q1898 : (Jvm.Cond.classLink "WasteHouse" (76 : Nat) "WasteHouse$HouseRoom") ∈ lw_all := lw_g (lw_at lw_m7 66 rfl) rfl
theorem q1900 : (Jvm.Cond.methodLink "WasteHouse" (78 : Nat) ({ cls := "WasteHouse$HouseRoom", name := "<init>", desc := "(LWasteHouse$TicketChain;LWasteHouse$ShareSolve;LWasteHouse$HazardRules;LWasteHouse$RoundColumns;LWasteHouse$BarredStores;LWasteHouse$PartGraphs;LWasteHouse$ApartCost;LWasteHouse$PurityOdds;LWasteHouse$DepositCodes;)V" } : Jvm.MethodName)) ∈ lw_all := lw_g (lw_at lw_m7 68 rfl) rfl
theorem q1920 : (Jvm.Cond.fieldLink "WasteHouse" (318 : Nat) "WasteHouse$Ledger" "balances" "[J") ∈ lw_all := lw_g (lw_at lw_m7 88 rfl) rfl
theorem q1972 : (Jvm.Cond.selects "WasteHouse" ({ cls := "java/lang/Object", name := "getClass", desc := "()Ljava/lang/Class;" } : Jvm.MethodName) ({ cls := "java/lang/Object", name := "getClass", desc := "()Ljava/lang/Class;" } : Jvm.MethodName)) ∈ lw_all := lw_g (lw_at lw_m7 140 rfl) rfl
theorem q2100 : (Jvm.Cond.fieldLinkNest "WasteHouse" (314 : Nat) "WasteHouse$HouseRoom" "ledger" "LWasteHouse$Ledger;" "WasteHouse") ∈ lw_tbl := lw_at lw_m8 28 rfl
theorem q2105 : (Jvm.Cond.fieldLink "WasteHouse" (242 : Nat) "WasteHouse$Room" "name" "Ljava/lang/String;") ∈ lw_all := lw_g (lw_at lw_m8 33 rfl) rfl
theorem q2141 : (Jvm.Cond.classLink "WasteHouse" (85 : Nat) "java/util/ArrayList") ∈ lw_all := lw_g (lw_at lw_m8 69 rfl) rfl
theorem q2142 : (Jvm.Cond.methodLink "WasteHouse" (87 : Nat) ({ cls := "java/util/ArrayList", name := "<init>", desc := "()V" } : Jvm.MethodName)) ∈ lw_all := lw_g (lw_at lw_m8 70 rfl) rfl
theorem q2143 : (Jvm.Cond.constant "WasteHouse" (96 : Nat) (60000 : Int32)) ∈ lw_all := lw_g (lw_at lw_m8 71 rfl) rfl
theorem q2144 : (Jvm.Cond.classLink "WasteHouse" (118 : Nat) "WasteHouse$TicketRoom") ∈ lw_all := lw_g (lw_at lw_m8 72 rfl) rfl
theorem q2146 : (Jvm.Cond.methodLink "WasteHouse" (120 : Nat) ({ cls := "WasteHouse$TicketRoom", name := "<init>", desc := "(LWasteHouse$TicketChain;)V" } : Jvm.MethodName)) ∈ lw_all := lw_g (lw_at lw_m8 74 rfl) rfl
theorem q2185 : (Jvm.Cond.methodLink "WasteHouse" (123 : Nat) ({ cls := "java/util/ArrayList", name := "add", desc := "(Ljava/lang/Object;)Z" } : Jvm.MethodName)) ∈ lw_all := lw_g (lw_at lw_m8 113 rfl) rfl
theorem q2186 : (Jvm.Cond.classLink "WasteHouse" (127 : Nat) "WasteHouse$LineRoom") ∈ lw_all := lw_g (lw_at lw_m8 114 rfl) rfl
theorem q2188 : (Jvm.Cond.methodLink "WasteHouse" (129 : Nat) ({ cls := "WasteHouse$LineRoom", name := "<init>", desc := "(LWasteHouse$ShareSolve;)V" } : Jvm.MethodName)) ∈ lw_all := lw_g (lw_at lw_m8 116 rfl) rfl
theorem q2227 : (Jvm.Cond.classLink "WasteHouse" (132 : Nat) "WasteHouse$HazardRoom") ∈ lw_all := lw_g (lw_at lw_m8 155 rfl) rfl
theorem q2229 : (Jvm.Cond.methodLink "WasteHouse" (134 : Nat) ({ cls := "WasteHouse$HazardRoom", name := "<init>", desc := "(LWasteHouse$HazardRules;)V" } : Jvm.MethodName)) ∈ lw_all := lw_g (lw_at lw_m8 157 rfl) rfl
theorem q2270 : (Jvm.Cond.classLink "WasteHouse" (137 : Nat) "WasteHouse$RoundRoom") ∈ lw_all := lw_g (lw_at lw_m8 198 rfl) rfl
theorem q2272 : (Jvm.Cond.methodLink "WasteHouse" (139 : Nat) ({ cls := "WasteHouse$RoundRoom", name := "<init>", desc := "(LWasteHouse$RoundColumns;)V" } : Jvm.MethodName)) ∈ lw_all := lw_g (lw_at lw_m8 200 rfl) rfl
theorem q2312 : (Jvm.Cond.classLink "WasteHouse" (142 : Nat) "WasteHouse$StoreRoom") ∈ lw_all := lw_g (lw_at lw_m9 0 rfl) rfl
theorem q2314 : (Jvm.Cond.methodLink "WasteHouse" (144 : Nat) ({ cls := "WasteHouse$StoreRoom", name := "<init>", desc := "(LWasteHouse$BarredStores;)V" } : Jvm.MethodName)) ∈ lw_all := lw_g (lw_at lw_m9 2 rfl) rfl
theorem q2355 : (Jvm.Cond.classLink "WasteHouse" (147 : Nat) "WasteHouse$ProductRoom") ∈ lw_all := lw_g (lw_at lw_m9 43 rfl) rfl
theorem q2357 : (Jvm.Cond.methodLink "WasteHouse" (149 : Nat) ({ cls := "WasteHouse$ProductRoom", name := "<init>", desc := "(LWasteHouse$PartGraphs;)V" } : Jvm.MethodName)) ∈ lw_all := lw_g (lw_at lw_m9 45 rfl) rfl
theorem q2396 : (Jvm.Cond.classLink "WasteHouse" (152 : Nat) "WasteHouse$ApartRoom") ∈ lw_all := lw_g (lw_at lw_m9 84 rfl) rfl
theorem q2398 : (Jvm.Cond.methodLink "WasteHouse" (154 : Nat) ({ cls := "WasteHouse$ApartRoom", name := "<init>", desc := "(LWasteHouse$ApartCost;)V" } : Jvm.MethodName)) ∈ lw_all := lw_g (lw_at lw_m9 86 rfl) rfl
theorem q2441 : (Jvm.Cond.classLink "WasteHouse" (157 : Nat) "WasteHouse$SampleRoom") ∈ lw_all := lw_g (lw_at lw_m9 129 rfl) rfl
theorem q2443 : (Jvm.Cond.methodLink "WasteHouse" (159 : Nat) ({ cls := "WasteHouse$SampleRoom", name := "<init>", desc := "(LWasteHouse$PurityOdds;)V" } : Jvm.MethodName)) ∈ lw_all := lw_g (lw_at lw_m9 131 rfl) rfl
theorem q2482 : (Jvm.Cond.classLink "WasteHouse" (162 : Nat) "WasteHouse$DepositRoom") ∈ lw_all := lw_g (lw_at lw_m9 170 rfl) rfl
theorem q2484 : (Jvm.Cond.methodLink "WasteHouse" (164 : Nat) ({ cls := "WasteHouse$DepositRoom", name := "<init>", desc := "(LWasteHouse$DepositCodes;)V" } : Jvm.MethodName)) ∈ lw_all := lw_g (lw_at lw_m9 172 rfl) rfl
theorem q2529 : (Jvm.Cond.fieldLink "WasteHouse" (10 : Nat) "WasteHouse" "chain" "LWasteHouse$TicketChain;") ∈ lw_all := lw_g (lw_at lw_m9 217 rfl) rfl
theorem q2530 : (Jvm.Cond.fieldLink "WasteHouse" (21 : Nat) "WasteHouse" "line" "LWasteHouse$ShareSolve;") ∈ lw_all := lw_g (lw_at lw_m9 218 rfl) rfl
theorem q2531 : (Jvm.Cond.fieldLink "WasteHouse" (28 : Nat) "WasteHouse" "rules" "LWasteHouse$HazardRules;") ∈ lw_all := lw_g (lw_at lw_m9 219 rfl) rfl
theorem q2532 : (Jvm.Cond.fieldLink "WasteHouse" (35 : Nat) "WasteHouse" "rounds" "LWasteHouse$RoundColumns;") ∈ lw_all := lw_g (lw_at lw_m9 220 rfl) rfl
theorem q2533 : (Jvm.Cond.fieldLink "WasteHouse" (42 : Nat) "WasteHouse" "store" "LWasteHouse$BarredStores;") ∈ lw_all := lw_g (lw_at lw_m9 221 rfl) rfl
theorem q2534 : (Jvm.Cond.fieldLink "WasteHouse" (49 : Nat) "WasteHouse" "graph" "LWasteHouse$PartGraphs;") ∈ lw_all := lw_g (lw_at lw_m9 222 rfl) rfl
theorem q2535 : (Jvm.Cond.fieldLink "WasteHouse" (56 : Nat) "WasteHouse" "apart" "LWasteHouse$ApartCost;") ∈ lw_all := lw_g (lw_at lw_m9 223 rfl) rfl
theorem q2536 : (Jvm.Cond.fieldLink "WasteHouse" (65 : Nat) "WasteHouse" "samples" "LWasteHouse$PurityOdds;") ∈ lw_all := lw_g (lw_at lw_m9 224 rfl) rfl
theorem q2537 : (Jvm.Cond.fieldLink "WasteHouse" (72 : Nat) "WasteHouse" "codes" "LWasteHouse$DepositCodes;") ∈ lw_all := lw_g (lw_at lw_m9 225 rfl) rfl
theorem q2538 : (Jvm.Cond.fieldLink "WasteHouse" (81 : Nat) "WasteHouse" "house" "LWasteHouse$HouseRoom;") ∈ lw_all := lw_g (lw_at lw_m9 226 rfl) rfl
theorem q2539 : (Jvm.Cond.fieldLink "WasteHouse" (88 : Nat) "WasteHouse" "rooms" "Ljava/util/ArrayList;") ∈ lw_all := lw_g (lw_at lw_m9 227 rfl) rfl
theorem q2540 : (Jvm.Cond.fieldLink "WasteHouse" (92 : Nat) "WasteHouse" "tape" "[B") ∈ lw_all := lw_g (lw_at lw_m9 228 rfl) rfl
theorem q2541 : (Jvm.Cond.fieldLink "WasteHouse" (167 : Nat) "WasteHouse" "size" "I") ∈ lw_all := lw_g (lw_at lw_m9 229 rfl) rfl
theorem q2542 : (Jvm.Cond.fieldLink "WasteHouse" (97 : Nat) "WasteHouse" "product" "[B") ∈ lw_all := lw_g (lw_at lw_m9 230 rfl) rfl
theorem q2543 : (Jvm.Cond.fieldLink "WasteHouse" (191 : Nat) "WasteHouse" "produced" "I") ∈ lw_all := lw_g (lw_at lw_m9 231 rfl) rfl
theorem q2544 : (Jvm.Cond.fieldLink "WasteHouse" (100 : Nat) "WasteHouse" "answers" "[J") ∈ lw_all := lw_g (lw_at lw_m9 232 rfl) rfl
theorem q2545 : (Jvm.Cond.fieldLink "WasteHouse" (223 : Nat) "WasteHouse" "answered" "I") ∈ lw_all := lw_g (lw_at lw_m9 233 rfl) rfl
theorem q2546 : (Jvm.Cond.fieldLink "WasteHouse" (104 : Nat) "WasteHouse" "wrongWord" "I") ∈ lw_all := lw_g (lw_at lw_m9 234 rfl) rfl
theorem q2547 : (Jvm.Cond.fieldLink "WasteHouse" (108 : Nat) "WasteHouse" "froms" "[I") ∈ lw_all := lw_g (lw_at lw_m9 235 rfl) rfl
theorem q2548 : (Jvm.Cond.fieldLink "WasteHouse" (112 : Nat) "WasteHouse" "tos" "[I") ∈ lw_all := lw_g (lw_at lw_m9 236 rfl) rfl
theorem q2549 : (Jvm.Cond.fieldLink "WasteHouse" (198 : Nat) "WasteHouse" "words" "I") ∈ lw_all := lw_g (lw_at lw_m9 237 rfl) rfl
theorem q2550 : (Jvm.Cond.fieldLink "WasteHouse" (201 : Nat) "WasteHouse" "lineEnd" "I") ∈ lw_all := lw_g (lw_at lw_m9 238 rfl) rfl
theorem q2551 : (Jvm.Cond.fieldLink "WasteHouse" (115 : Nat) "WasteHouse" "numbers" "[J") ∈ lw_all := lw_g (lw_at lw_m9 239 rfl) rfl
theorem q2552 : (Jvm.Cond.laysFinal "WasteHouse" "WasteHouse" "chain" "LWasteHouse$TicketChain;") ∈ lw_all := lw_g (lw_at lw_m10 0 rfl) rfl
theorem q2553 : (Jvm.Cond.soleField "WasteHouse" "chain") ∈ lw_all := lw_g (lw_at lw_m10 1 rfl) rfl
theorem q2554 : (Jvm.Cond.laysFinal "WasteHouse" "WasteHouse" "line" "LWasteHouse$ShareSolve;") ∈ lw_all := lw_g (lw_at lw_m10 2 rfl) rfl
theorem q2555 : (Jvm.Cond.soleField "WasteHouse" "line") ∈ lw_all := lw_g (lw_at lw_m10 3 rfl) rfl
theorem q2556 : (Jvm.Cond.laysFinal "WasteHouse" "WasteHouse" "rules" "LWasteHouse$HazardRules;") ∈ lw_all := lw_g (lw_at lw_m10 4 rfl) rfl
theorem q2557 : (Jvm.Cond.soleField "WasteHouse" "rules") ∈ lw_all := lw_g (lw_at lw_m10 5 rfl) rfl
theorem q2558 : (Jvm.Cond.laysFinal "WasteHouse" "WasteHouse" "rounds" "LWasteHouse$RoundColumns;") ∈ lw_all := lw_g (lw_at lw_m10 6 rfl) rfl
theorem q2559 : (Jvm.Cond.soleField "WasteHouse" "rounds") ∈ lw_all := lw_g (lw_at lw_m10 7 rfl) rfl
theorem q2560 : (Jvm.Cond.laysFinal "WasteHouse" "WasteHouse" "store" "LWasteHouse$BarredStores;") ∈ lw_all := lw_g (lw_at lw_m10 8 rfl) rfl
theorem q2561 : (Jvm.Cond.soleField "WasteHouse" "store") ∈ lw_all := lw_g (lw_at lw_m10 9 rfl) rfl
theorem q2562 : (Jvm.Cond.laysFinal "WasteHouse" "WasteHouse" "graph" "LWasteHouse$PartGraphs;") ∈ lw_all := lw_g (lw_at lw_m10 10 rfl) rfl
theorem q2563 : (Jvm.Cond.soleField "WasteHouse" "graph") ∈ lw_all := lw_g (lw_at lw_m10 11 rfl) rfl
theorem q2564 : (Jvm.Cond.laysFinal "WasteHouse" "WasteHouse" "apart" "LWasteHouse$ApartCost;") ∈ lw_all := lw_g (lw_at lw_m10 12 rfl) rfl
theorem q2565 : (Jvm.Cond.soleField "WasteHouse" "apart") ∈ lw_all := lw_g (lw_at lw_m10 13 rfl) rfl
theorem q2566 : (Jvm.Cond.laysFinal "WasteHouse" "WasteHouse" "samples" "LWasteHouse$PurityOdds;") ∈ lw_all := lw_g (lw_at lw_m10 14 rfl) rfl
theorem q2567 : (Jvm.Cond.soleField "WasteHouse" "samples") ∈ lw_all := lw_g (lw_at lw_m10 15 rfl) rfl
theorem q2568 : (Jvm.Cond.laysFinal "WasteHouse" "WasteHouse" "codes" "LWasteHouse$DepositCodes;") ∈ lw_all := lw_g (lw_at lw_m10 16 rfl) rfl
theorem q2569 : (Jvm.Cond.soleField "WasteHouse" "codes") ∈ lw_all := lw_g (lw_at lw_m10 17 rfl) rfl
theorem q2570 : (Jvm.Cond.laysFinal "WasteHouse" "WasteHouse" "house" "LWasteHouse$HouseRoom;") ∈ lw_all := lw_g (lw_at lw_m10 18 rfl) rfl
theorem q2571 : (Jvm.Cond.soleField "WasteHouse" "house") ∈ lw_all := lw_g (lw_at lw_m10 19 rfl) rfl
theorem q2572 : (Jvm.Cond.laysFinal "WasteHouse" "WasteHouse" "rooms" "Ljava/util/ArrayList;") ∈ lw_all := lw_g (lw_at lw_m10 20 rfl) rfl
theorem q2573 : (Jvm.Cond.soleField "WasteHouse" "rooms") ∈ lw_all := lw_g (lw_at lw_m10 21 rfl) rfl
theorem q2574 : (Jvm.Cond.laysFinal "WasteHouse" "WasteHouse" "tape" "[B") ∈ lw_all := lw_g (lw_at lw_m10 22 rfl) rfl
theorem q2575 : (Jvm.Cond.soleField "WasteHouse" "tape") ∈ lw_all := lw_g (lw_at lw_m10 23 rfl) rfl
theorem q2576 : (Jvm.Cond.lays "WasteHouse" "WasteHouse" "size" "I") ∈ lw_all := lw_g (lw_at lw_m10 24 rfl) rfl
theorem q2577 : (Jvm.Cond.soleField "WasteHouse" "size") ∈ lw_all := lw_g (lw_at lw_m10 25 rfl) rfl
theorem q2578 : (Jvm.Cond.laysFinal "WasteHouse" "WasteHouse" "product" "[B") ∈ lw_all := lw_g (lw_at lw_m10 26 rfl) rfl
theorem q2579 : (Jvm.Cond.soleField "WasteHouse" "product") ∈ lw_all := lw_g (lw_at lw_m10 27 rfl) rfl
theorem q2580 : (Jvm.Cond.lays "WasteHouse" "WasteHouse" "produced" "I") ∈ lw_all := lw_g (lw_at lw_m10 28 rfl) rfl
theorem q2581 : (Jvm.Cond.soleField "WasteHouse" "produced") ∈ lw_all := lw_g (lw_at lw_m10 29 rfl) rfl
theorem q2582 : (Jvm.Cond.laysFinal "WasteHouse" "WasteHouse" "answers" "[J") ∈ lw_all := lw_g (lw_at lw_m10 30 rfl) rfl
theorem q2583 : (Jvm.Cond.soleField "WasteHouse" "answers") ∈ lw_all := lw_g (lw_at lw_m10 31 rfl) rfl
theorem q2584 : (Jvm.Cond.lays "WasteHouse" "WasteHouse" "answered" "I") ∈ lw_all := lw_g (lw_at lw_m10 32 rfl) rfl
theorem q2585 : (Jvm.Cond.soleField "WasteHouse" "answered") ∈ lw_all := lw_g (lw_at lw_m10 33 rfl) rfl
theorem q2586 : (Jvm.Cond.lays "WasteHouse" "WasteHouse" "wrongWord" "I") ∈ lw_all := lw_g (lw_at lw_m10 34 rfl) rfl
theorem q2587 : (Jvm.Cond.soleField "WasteHouse" "wrongWord") ∈ lw_all := lw_g (lw_at lw_m10 35 rfl) rfl
theorem q2588 : (Jvm.Cond.laysFinal "WasteHouse" "WasteHouse" "froms" "[I") ∈ lw_all := lw_g (lw_at lw_m10 36 rfl) rfl
theorem q2589 : (Jvm.Cond.soleField "WasteHouse" "froms") ∈ lw_all := lw_g (lw_at lw_m10 37 rfl) rfl
theorem q2590 : (Jvm.Cond.laysFinal "WasteHouse" "WasteHouse" "tos" "[I") ∈ lw_all := lw_g (lw_at lw_m10 38 rfl) rfl
theorem q2591 : (Jvm.Cond.soleField "WasteHouse" "tos") ∈ lw_all := lw_g (lw_at lw_m10 39 rfl) rfl
theorem q2592 : (Jvm.Cond.lays "WasteHouse" "WasteHouse" "words" "I") ∈ lw_all := lw_g (lw_at lw_m10 40 rfl) rfl
theorem q2593 : (Jvm.Cond.soleField "WasteHouse" "words") ∈ lw_all := lw_g (lw_at lw_m10 41 rfl) rfl
theorem q2594 : (Jvm.Cond.lays "WasteHouse" "WasteHouse" "lineEnd" "I") ∈ lw_all := lw_g (lw_at lw_m10 42 rfl) rfl
theorem q2595 : (Jvm.Cond.soleField "WasteHouse" "lineEnd") ∈ lw_all := lw_g (lw_at lw_m10 43 rfl) rfl
theorem q2596 : (Jvm.Cond.laysFinal "WasteHouse" "WasteHouse" "numbers" "[J") ∈ lw_all := lw_g (lw_at lw_m10 44 rfl) rfl
theorem q2597 : (Jvm.Cond.soleField "WasteHouse" "numbers") ∈ lw_all := lw_g (lw_at lw_m10 45 rfl) rfl
theorem q2598 : (Jvm.Cond.superclass "WasteHouse" "java/lang/Object") ∈ lw_all := lw_g (lw_at lw_m10 46 rfl) rfl
theorem q2600 : (Jvm.Cond.instanceMethod ({ cls := "WasteHouse", name := "made", desc := "()I" } : Jvm.MethodName)) ∈ lw_all := lw_g (lw_at lw_m10 48 rfl) rfl
theorem q2601 : (Jvm.Cond.selects "WasteHouse" ({ cls := "WasteHouse", name := "made", desc := "()I" } : Jvm.MethodName) ({ cls := "WasteHouse", name := "made", desc := "()I" } : Jvm.MethodName)) ∈ lw_all := lw_g (lw_at lw_m10 49 rfl) rfl
theorem q2602 : (Jvm.Cond.code ({ cls := "WasteHouse", name := "made", desc := "()I" } : Jvm.MethodName) prog_1_method_6_code (1 : Nat) (Option.some Jvm.ClassFile.FieldType.int)) ∈ lw_all := lw_g (lw_at lw_m10 50 rfl) rfl
theorem q2604 : (Jvm.Cond.instanceMethod ({ cls := "WasteHouse", name := "out", desc := "(I)I" } : Jvm.MethodName)) ∈ lw_all := lw_g (lw_at lw_m10 52 rfl) rfl
theorem q2605 : (Jvm.Cond.selects "WasteHouse" ({ cls := "WasteHouse", name := "out", desc := "(I)I" } : Jvm.MethodName) ({ cls := "WasteHouse", name := "out", desc := "(I)I" } : Jvm.MethodName)) ∈ lw_all := lw_g (lw_at lw_m10 53 rfl) rfl
theorem q2606 : (Jvm.Cond.code ({ cls := "WasteHouse", name := "out", desc := "(I)I" } : Jvm.MethodName) prog_1_method_7_code (2 : Nat) (Option.some Jvm.ClassFile.FieldType.int)) ∈ lw_all := lw_g (lw_at lw_m10 54 rfl) rfl
theorem q2608 : (Jvm.Cond.instanceMethod ({ cls := "WasteHouse", name := "run", desc := "()I" } : Jvm.MethodName)) ∈ lw_all := lw_g (lw_at lw_m10 56 rfl) rfl
theorem q2609 : (Jvm.Cond.selects "WasteHouse" ({ cls := "WasteHouse", name := "run", desc := "()I" } : Jvm.MethodName) ({ cls := "WasteHouse", name := "run", desc := "()I" } : Jvm.MethodName)) ∈ lw_all := lw_g (lw_at lw_m10 57 rfl) rfl
theorem q2610 : (Jvm.Cond.code ({ cls := "WasteHouse", name := "run", desc := "()I" } : Jvm.MethodName) prog_1_method_16_code (4 : Nat) (Option.some Jvm.ClassFile.FieldType.int)) ∈ lw_all := lw_g (lw_at lw_m10 58 rfl) rfl
theorem q2611 : (Jvm.Cond.methodLink "WasteHouse" (307 : Nat) ({ cls := "WasteHouse", name := "split", desc := "(I)I" } : Jvm.MethodName)) ∈ lw_all := lw_g (lw_at lw_m10 59 rfl) rfl
theorem q2612 : (Jvm.Cond.privateMethod ({ cls := "WasteHouse", name := "split", desc := "(I)I" } : Jvm.MethodName)) ∈ lw_tbl := lw_at lw_m10 60 rfl
theorem q2613 : (Jvm.Cond.instanceMethod ({ cls := "WasteHouse", name := "split", desc := "(I)I" } : Jvm.MethodName)) ∈ lw_all := lw_g (lw_at lw_m10 61 rfl) rfl
theorem q2614 : (Jvm.Cond.code ({ cls := "WasteHouse", name := "split", desc := "(I)I" } : Jvm.MethodName) prog_1_method_8_code (3 : Nat) (Option.some Jvm.ClassFile.FieldType.int)) ∈ lw_all := lw_g (lw_at lw_m10 62 rfl) rfl
theorem q2615 : (Jvm.Cond.methodLink "WasteHouse" (311 : Nat) ({ cls := "WasteHouse", name := "doLine", desc := "()I" } : Jvm.MethodName)) ∈ lw_all := lw_g (lw_at lw_m10 63 rfl) rfl
theorem q2616 : (Jvm.Cond.privateMethod ({ cls := "WasteHouse", name := "doLine", desc := "()I" } : Jvm.MethodName)) ∈ lw_tbl := lw_at lw_m10 64 rfl
theorem q2617 : (Jvm.Cond.instanceMethod ({ cls := "WasteHouse", name := "doLine", desc := "()I" } : Jvm.MethodName)) ∈ lw_all := lw_g (lw_at lw_m10 65 rfl) rfl
theorem q2618 : (Jvm.Cond.code ({ cls := "WasteHouse", name := "doLine", desc := "()I" } : Jvm.MethodName) prog_1_method_14_code (5 : Nat) (Option.some Jvm.ClassFile.FieldType.int)) ∈ lw_all := lw_g (lw_at lw_m10 66 rfl) rfl
theorem q2619 : (Jvm.Cond.methodLink "WasteHouse" (260 : Nat) ({ cls := "WasteHouse", name := "word", desc := "(I)Ljava/lang/String;" } : Jvm.MethodName)) ∈ lw_all := lw_g (lw_at lw_m10 67 rfl) rfl
theorem q2620 : (Jvm.Cond.privateMethod ({ cls := "WasteHouse", name := "word", desc := "(I)Ljava/lang/String;" } : Jvm.MethodName)) ∈ lw_tbl := lw_at lw_m10 68 rfl
theorem q2621 : (Jvm.Cond.instanceMethod ({ cls := "WasteHouse", name := "word", desc := "(I)Ljava/lang/String;" } : Jvm.MethodName)) ∈ lw_all := lw_g (lw_at lw_m10 69 rfl) rfl
theorem q2622 : (Jvm.Cond.code ({ cls := "WasteHouse", name := "word", desc := "(I)Ljava/lang/String;" } : Jvm.MethodName) prog_1_method_9_code (4 : Nat) (Option.some (Jvm.ClassFile.FieldType.object "java/lang/String"))) ∈ lw_all := lw_g (lw_at lw_m10 70 rfl) rfl
theorem q2623 : (Jvm.Cond.classLink "WasteHouse" (204 : Nat) "java/lang/StringBuilder") ∈ lw_all := lw_g (lw_at lw_m10 71 rfl) rfl
theorem q2625 : (Jvm.Cond.methodLink "WasteHouse" (206 : Nat) ({ cls := "java/lang/StringBuilder", name := "<init>", desc := "()V" } : Jvm.MethodName)) ∈ lw_all := lw_g (lw_at lw_m10 73 rfl) rfl
theorem q2654 : (Jvm.Cond.methodLink "WasteHouse" (207 : Nat) ({ cls := "java/lang/StringBuilder", name := "append", desc := "(C)Ljava/lang/StringBuilder;" } : Jvm.MethodName)) ∈ lw_all := lw_g (lw_at lw_m10 102 rfl) rfl
theorem q2732 : (Jvm.Cond.methodLink "WasteHouse" (211 : Nat) ({ cls := "java/lang/StringBuilder", name := "toString", desc := "()Ljava/lang/String;" } : Jvm.MethodName)) ∈ lw_all := lw_g (lw_at lw_m10 180 rfl) rfl
theorem q2937 : (Jvm.Cond.methodLink "WasteHouse" (264 : Nat) ({ cls := "WasteHouse", name := "roomOf", desc := "(Ljava/lang/String;)LWasteHouse$Room;" } : Jvm.MethodName)) ∈ lw_all := lw_g (lw_at lw_m11 145 rfl) rfl
theorem q2938 : (Jvm.Cond.privateMethod ({ cls := "WasteHouse", name := "roomOf", desc := "(Ljava/lang/String;)LWasteHouse$Room;" } : Jvm.MethodName)) ∈ lw_tbl := lw_at lw_m11 146 rfl
theorem q2939 : (Jvm.Cond.instanceMethod ({ cls := "WasteHouse", name := "roomOf", desc := "(Ljava/lang/String;)LWasteHouse$Room;" } : Jvm.MethodName)) ∈ lw_all := lw_g (lw_at lw_m11 147 rfl) rfl
theorem q2940 : (Jvm.Cond.code ({ cls := "WasteHouse", name := "roomOf", desc := "(Ljava/lang/String;)LWasteHouse$Room;" } : Jvm.MethodName) prog_1_method_12_code (4 : Nat) (Option.some (Jvm.ClassFile.FieldType.object "WasteHouse$Room"))) ∈ lw_all := lw_g (lw_at lw_m11 148 rfl) rfl
theorem q2941 : (Jvm.Cond.methodLink "WasteHouse" (226 : Nat) ({ cls := "java/util/ArrayList", name := "iterator", desc := "()Ljava/util/Iterator;" } : Jvm.MethodName)) ∈ lw_all := lw_g (lw_at lw_m11 149 rfl) rfl
theorem q2964 : (Jvm.Cond.interfaceEntry "WasteHouse" (230 : Nat)) ∈ lw_tbl := lw_at lw_m11 172 rfl
theorem q2965 : (Jvm.Cond.methodLink "WasteHouse" (230 : Nat) ({ cls := "java/util/Iterator", name := "hasNext", desc := "()Z" } : Jvm.MethodName)) ∈ lw_all := lw_g (lw_at lw_m11 173 rfl) rfl
theorem q2992 : (Jvm.Cond.interfaceEntry "WasteHouse" (236 : Nat)) ∈ lw_tbl := lw_at lw_m11 200 rfl
theorem q2993 : (Jvm.Cond.methodLink "WasteHouse" (236 : Nat) ({ cls := "java/util/Iterator", name := "next", desc := "()Ljava/lang/Object;" } : Jvm.MethodName)) ∈ lw_all := lw_g (lw_at lw_m11 201 rfl) rfl
theorem q3045 : (Jvm.Cond.classLink "WasteHouse" (240 : Nat) "WasteHouse$Room") ∈ lw_all := lw_g (lw_at lw_m12 13 rfl) rfl
theorem q3046 : (Jvm.Cond.methodLink "WasteHouse" (246 : Nat) ({ cls := "java/lang/String", name := "equals", desc := "(Ljava/lang/Object;)Z" } : Jvm.MethodName)) ∈ lw_all := lw_g (lw_at lw_m12 14 rfl) rfl
theorem q3054 : (Jvm.Cond.methodLink "WasteHouse" (268 : Nat) ({ cls := "WasteHouse$Room", name := "find", desc := "(Ljava/lang/String;)I" } : Jvm.MethodName)) ∈ lw_all := lw_g (lw_at lw_m12 22 rfl) rfl
theorem q3080 : (Jvm.Cond.selects "WasteHouse" ({ cls := "java/lang/Object", name := "equals", desc := "(Ljava/lang/Object;)Z" } : Jvm.MethodName) ({ cls := "java/lang/Object", name := "equals", desc := "(Ljava/lang/Object;)Z" } : Jvm.MethodName)) ∈ lw_all := lw_g (lw_at lw_m12 48 rfl) rfl
theorem q3168 : (Jvm.Cond.methodLink "WasteHouse" (272 : Nat) ({ cls := "WasteHouse$Room", name := "need", desc := "(I)Ljava/lang/String;" } : Jvm.MethodName)) ∈ lw_all := lw_g (lw_at lw_m12 136 rfl) rfl
theorem q3195 : (Jvm.Cond.stringRef "WasteHouse" (275 : Nat) "t") ∈ lw_tbl := lw_at lw_m12 163 rfl
theorem q3196 : (Jvm.Cond.methodLink "WasteHouse" (277 : Nat) ({ cls := "WasteHouse", name := "tell", desc := "(LWasteHouse$Room;)V" } : Jvm.MethodName)) ∈ lw_all := lw_g (lw_at lw_m12 164 rfl) rfl
theorem q3197 : (Jvm.Cond.privateMethod ({ cls := "WasteHouse", name := "tell", desc := "(LWasteHouse$Room;)V" } : Jvm.MethodName)) ∈ lw_tbl := lw_at lw_m12 165 rfl
theorem q3198 : (Jvm.Cond.instanceMethod ({ cls := "WasteHouse", name := "tell", desc := "(LWasteHouse$Room;)V" } : Jvm.MethodName)) ∈ lw_all := lw_g (lw_at lw_m12 166 rfl) rfl
theorem q3199 : (Jvm.Cond.code ({ cls := "WasteHouse", name := "tell", desc := "(LWasteHouse$Room;)V" } : Jvm.MethodName) prog_1_method_13_code (3 : Nat) (Option.none : Option Jvm.ClassFile.FieldType)) ∈ lw_all := lw_g (lw_at lw_m12 167 rfl) rfl
theorem q3200 : (Jvm.Cond.methodLink "WasteHouse" (249 : Nat) ({ cls := "java/lang/Math", name := "min", desc := "(II)I" } : Jvm.MethodName)) ∈ lw_all := lw_g (lw_at lw_m12 168 rfl) rfl
theorem q3201 : (Jvm.Cond.methodLink "WasteHouse" (255 : Nat) ({ cls := "WasteHouse$HazardRules", name := "unit", desc := "(I)Z" } : Jvm.MethodName)) ∈ lw_all := lw_g (lw_at lw_m12 169 rfl) rfl
theorem q3205 : (Jvm.Cond.methodLink "WasteHouse" (259 : Nat) ({ cls := "WasteHouse$PartGraphs", name := "unit", desc := "(I)Z" } : Jvm.MethodName)) ∈ lw_all := lw_g (lw_at lw_m12 173 rfl) rfl
theorem q3209 : (Jvm.Cond.methodLink "WasteHouse" (185 : Nat) ({ cls := "java/lang/String", name := "length", desc := "()I" } : Jvm.MethodName)) ∈ lw_all := lw_g (lw_at lw_m12 177 rfl) rfl
theorem q3210 : (Jvm.Cond.methodLink "WasteHouse" (194 : Nat) ({ cls := "java/lang/String", name := "charAt", desc := "(I)C" } : Jvm.MethodName)) ∈ lw_all := lw_g (lw_at lw_m12 178 rfl) rfl
theorem q3225 : (Jvm.Cond.methodLink "WasteHouse" (281 : Nat) ({ cls := "WasteHouse", name := "reads", desc := "(IIC)Z" } : Jvm.MethodName)) ∈ lw_all := lw_g (lw_at lw_m12 193 rfl) rfl
theorem q3226 : (Jvm.Cond.privateMethod ({ cls := "WasteHouse", name := "reads", desc := "(IIC)Z" } : Jvm.MethodName)) ∈ lw_tbl := lw_at lw_m12 194 rfl
theorem q3227 : (Jvm.Cond.instanceMethod ({ cls := "WasteHouse", name := "reads", desc := "(IIC)Z" } : Jvm.MethodName)) ∈ lw_all := lw_g (lw_at lw_m12 195 rfl) rfl
theorem q3228 : (Jvm.Cond.code ({ cls := "WasteHouse", name := "reads", desc := "(IIC)Z" } : Jvm.MethodName) prog_1_method_11_code (10 : Nat) (Option.some Jvm.ClassFile.FieldType.boolean)) ∈ lw_all := lw_g (lw_at lw_m12 196 rfl) rfl
theorem q3229 : (Jvm.Cond.methodLink "WasteHouse" (219 : Nat) ({ cls := "WasteHouse", name := "digits", desc := "(II)J" } : Jvm.MethodName)) ∈ lw_all := lw_g (lw_at lw_m12 197 rfl) rfl
theorem q3230 : (Jvm.Cond.privateMethod ({ cls := "WasteHouse", name := "digits", desc := "(II)J" } : Jvm.MethodName)) ∈ lw_tbl := lw_at lw_m12 198 rfl
theorem q3231 : (Jvm.Cond.instanceMethod ({ cls := "WasteHouse", name := "digits", desc := "(II)J" } : Jvm.MethodName)) ∈ lw_all := lw_g (lw_at lw_m12 199 rfl) rfl
theorem q3232 : (Jvm.Cond.code ({ cls := "WasteHouse", name := "digits", desc := "(II)J" } : Jvm.MethodName) prog_1_method_10_code (7 : Nat) (Option.some Jvm.ClassFile.FieldType.long)) ∈ lw_all := lw_g (lw_at lw_m12 200 rfl) rfl
theorem q3233 : (Jvm.Cond.constantLong "WasteHouse" (215 : Nat) (-1 : Int64)) ∈ lw_all := lw_g (lw_at lw_m12 201 rfl) rfl
theorem q3234 : (Jvm.Cond.constantLong "WasteHouse" (217 : Nat) (10 : Int64)) ∈ lw_all := lw_g (lw_at lw_m12 202 rfl) rfl
theorem q3235 : (Jvm.Cond.methodLink "WasteHouse" (285 : Nat) ({ cls := "WasteHouse", name := "answer", desc := "(LWasteHouse$Room;I)V" } : Jvm.MethodName)) ∈ lw_all := lw_g (lw_at lw_m12 203 rfl) rfl
theorem q3236 : (Jvm.Cond.privateMethod ({ cls := "WasteHouse", name := "answer", desc := "(LWasteHouse$Room;I)V" } : Jvm.MethodName)) ∈ lw_tbl := lw_at lw_m12 204 rfl
theorem q3237 : (Jvm.Cond.instanceMethod ({ cls := "WasteHouse", name := "answer", desc := "(LWasteHouse$Room;I)V" } : Jvm.MethodName)) ∈ lw_all := lw_g (lw_at lw_m12 205 rfl) rfl
theorem q3238 : (Jvm.Cond.codeWith ({ cls := "WasteHouse", name := "answer", desc := "(LWasteHouse$Room;I)V" } : Jvm.MethodName) prog_1_method_15_code (7 : Nat) (Option.none : Option Jvm.ClassFile.FieldType) [((7 : Nat), (17 : Nat), (20 : Nat), (293 : Nat)), ((7 : Nat), (17 : Nat), (28 : Nat), (170 : Nat))]) ∈ lw_all := lw_g (lw_at lw_m12 206 rfl) rfl
theorem q3239 : (Jvm.Cond.classLink "WasteHouse" (293 : Nat) "java/lang/ArrayIndexOutOfBoundsException") ∈ lw_all := lw_g (lw_at lw_m12 207 rfl) rfl
theorem q3258 : (Jvm.Cond.classLink "WasteHouse" (170 : Nat) "java/lang/IllegalStateException") ∈ lw_all := lw_g (lw_at lw_m12 226 rfl) rfl
theorem q3259 : (Jvm.Cond.methodLink "WasteHouse" (289 : Nat) ({ cls := "WasteHouse$Room", name := "call", desc := "(I[J)J" } : Jvm.MethodName)) ∈ lw_all := lw_g (lw_at lw_m12 227 rfl) rfl
theorem q3595 : (Jvm.Cond.selects "WasteHouse" ({ cls := "java/lang/Object", name := "hashCode", desc := "()I" } : Jvm.MethodName) ({ cls := "java/lang/Object", name := "hashCode", desc := "()I" } : Jvm.MethodName)) ∈ lw_all := lw_g (lw_at lw_m14 83 rfl) rfl
theorem q6604 : (Jvm.Cond.stringRef "WasteHouse" (295 : Nat) "x") ∈ lw_tbl := lw_at lw_m26 212 rfl
theorem q6605 : (Jvm.Cond.methodLink "WasteHouse" (297 : Nat) ({ cls := "java/lang/Long", name := "toString", desc := "(J)Ljava/lang/String;" } : Jvm.MethodName)) ∈ lw_all := lw_g (lw_at lw_m26 213 rfl) rfl
theorem q6616 : (Jvm.Cond.methodLink "WasteHouse" (302 : Nat) ({ cls := "WasteHouse", name := "lay", desc := "(Ljava/lang/String;)V" } : Jvm.MethodName)) ∈ lw_all := lw_g (lw_at lw_m26 224 rfl) rfl
theorem q6617 : (Jvm.Cond.privateMethod ({ cls := "WasteHouse", name := "lay", desc := "(Ljava/lang/String;)V" } : Jvm.MethodName)) ∈ lw_tbl := lw_at lw_m26 225 rfl
theorem q6618 : (Jvm.Cond.instanceMethod ({ cls := "WasteHouse", name := "lay", desc := "(Ljava/lang/String;)V" } : Jvm.MethodName)) ∈ lw_all := lw_g (lw_at lw_m26 226 rfl) rfl
theorem q6619 : (Jvm.Cond.code ({ cls := "WasteHouse", name := "lay", desc := "(Ljava/lang/String;)V" } : Jvm.MethodName) prog_1_method_5_code (3 : Nat) (Option.none : Option Jvm.ClassFile.FieldType)) ∈ lw_all := lw_g (lw_at lw_m26 227 rfl) rfl
theorem q6620 : (Jvm.Cond.stringRef "WasteHouse" (305 : Nat) "\n") ∈ lw_tbl := lw_at lw_m26 228 rfl
theorem q6622 : (Jvm.Cond.instanceMethod ({ cls := "WasteHouse", name := "wrong", desc := "()I" } : Jvm.MethodName)) ∈ lw_all := lw_g (lw_at lw_m26 230 rfl) rfl
theorem q6623 : (Jvm.Cond.selects "WasteHouse" ({ cls := "WasteHouse", name := "wrong", desc := "()I" } : Jvm.MethodName) ({ cls := "WasteHouse", name := "wrong", desc := "()I" } : Jvm.MethodName)) ∈ lw_all := lw_g (lw_at lw_m26 231 rfl) rfl
theorem q6624 : (Jvm.Cond.code ({ cls := "WasteHouse", name := "wrong", desc := "()I" } : Jvm.MethodName) prog_1_method_17_code (1 : Nat) (Option.some Jvm.ClassFile.FieldType.int)) ∈ lw_all := lw_g (lw_at lw_m26 232 rfl) rfl
theorem q6626 : (Jvm.Cond.instanceMethod ({ cls := "WasteHouse", name := "answers", desc := "()I" } : Jvm.MethodName)) ∈ lw_all := lw_g (lw_at lw_m26 234 rfl) rfl
theorem q6627 : (Jvm.Cond.selects "WasteHouse" ({ cls := "WasteHouse", name := "answers", desc := "()I" } : Jvm.MethodName) ({ cls := "WasteHouse", name := "answers", desc := "()I" } : Jvm.MethodName)) ∈ lw_all := lw_g (lw_at lw_m26 235 rfl) rfl
theorem q6628 : (Jvm.Cond.code ({ cls := "WasteHouse", name := "answers", desc := "()I" } : Jvm.MethodName) prog_1_method_18_code (1 : Nat) (Option.some Jvm.ClassFile.FieldType.int)) ∈ lw_all := lw_g (lw_at lw_m26 236 rfl) rfl
theorem q6630 : (Jvm.Cond.instanceMethod ({ cls := "WasteHouse", name := "answer", desc := "(I)J" } : Jvm.MethodName)) ∈ lw_all := lw_g (lw_at lw_m26 238 rfl) rfl
theorem q6631 : (Jvm.Cond.selects "WasteHouse" ({ cls := "WasteHouse", name := "answer", desc := "(I)J" } : Jvm.MethodName) ({ cls := "WasteHouse", name := "answer", desc := "(I)J" } : Jvm.MethodName)) ∈ lw_all := lw_g (lw_at lw_m26 239 rfl) rfl
theorem q6632 : (Jvm.Cond.code ({ cls := "WasteHouse", name := "answer", desc := "(I)J" } : Jvm.MethodName) prog_1_method_19_code (2 : Nat) (Option.some Jvm.ClassFile.FieldType.long)) ∈ lw_all := lw_g (lw_at lw_m27 0 rfl) rfl
theorem q6634 : (Jvm.Cond.instanceMethod ({ cls := "WasteHouse", name := "account", desc := "(I)J" } : Jvm.MethodName)) ∈ lw_all := lw_g (lw_at lw_m27 2 rfl) rfl
theorem q6635 : (Jvm.Cond.selects "WasteHouse" ({ cls := "WasteHouse", name := "account", desc := "(I)J" } : Jvm.MethodName) ({ cls := "WasteHouse", name := "account", desc := "(I)J" } : Jvm.MethodName)) ∈ lw_all := lw_g (lw_at lw_m27 3 rfl) rfl
theorem q6636 : (Jvm.Cond.code ({ cls := "WasteHouse", name := "account", desc := "(I)J" } : Jvm.MethodName) prog_1_method_20_code (2 : Nat) (Option.some Jvm.ClassFile.FieldType.long)) ∈ lw_all := lw_g (lw_at lw_m27 4 rfl) rfl
theorem q6638 : (Jvm.Cond.instanceMethod ({ cls := "WasteHouse", name := "sound", desc := "()Z" } : Jvm.MethodName)) ∈ lw_all := lw_g (lw_at lw_m27 6 rfl) rfl
theorem q6639 : (Jvm.Cond.selects "WasteHouse" ({ cls := "WasteHouse", name := "sound", desc := "()Z" } : Jvm.MethodName) ({ cls := "WasteHouse", name := "sound", desc := "()Z" } : Jvm.MethodName)) ∈ lw_all := lw_g (lw_at lw_m27 7 rfl) rfl
theorem q6640 : (Jvm.Cond.code ({ cls := "WasteHouse", name := "sound", desc := "()Z" } : Jvm.MethodName) prog_1_method_21_code (1 : Nat) (Option.some Jvm.ClassFile.FieldType.boolean)) ∈ lw_all := lw_g (lw_at lw_m27 8 rfl) rfl
theorem q6641 : (Jvm.Cond.methodLink "WasteHouse" (323 : Nat) ({ cls := "WasteHouse$HouseRoom", name := "call", desc := "(I[J)J" } : Jvm.MethodName)) ∈ lw_all := lw_g (lw_at lw_m27 9 rfl) rfl
theorem q6647 : (Jvm.Cond.instanceMethod ({ cls := "WasteHouse", name := "feed", desc := "(IIIII)V" } : Jvm.MethodName)) ∈ lw_all := lw_g (lw_at lw_m27 15 rfl) rfl
theorem q6648 : (Jvm.Cond.selects "WasteHouse" ({ cls := "WasteHouse", name := "feed", desc := "(IIIII)V" } : Jvm.MethodName) ({ cls := "WasteHouse", name := "feed", desc := "(IIIII)V" } : Jvm.MethodName)) ∈ lw_all := lw_g (lw_at lw_m27 16 rfl) rfl
theorem q6649 : (Jvm.Cond.code ({ cls := "WasteHouse", name := "feed", desc := "(IIIII)V" } : Jvm.MethodName) prog_1_method_3_code (6 : Nat) (Option.none : Option Jvm.ClassFile.FieldType)) ∈ lw_all := lw_g (lw_at lw_m27 17 rfl) rfl
theorem q6650 : (Jvm.Cond.stringRef "WasteHouse" (172 : Nat) "no room") ∈ lw_tbl := lw_at lw_m27 18 rfl
theorem q6651 : (Jvm.Cond.methodLink "WasteHouse" (174 : Nat) ({ cls := "java/lang/IllegalStateException", name := "<init>", desc := "(Ljava/lang/String;)V" } : Jvm.MethodName)) ∈ lw_all := lw_g (lw_at lw_m27 19 rfl) rfl
theorem q6652 : (Jvm.Cond.methodLink "WasteHouse" (177 : Nat) ({ cls := "WasteHouse", name := "take", desc := "(I)V" } : Jvm.MethodName)) ∈ lw_all := lw_g (lw_at lw_m27 20 rfl) rfl
theorem q6653 : (Jvm.Cond.privateMethod ({ cls := "WasteHouse", name := "take", desc := "(I)V" } : Jvm.MethodName)) ∈ lw_tbl := lw_at lw_m27 21 rfl
theorem q6654 : (Jvm.Cond.instanceMethod ({ cls := "WasteHouse", name := "take", desc := "(I)V" } : Jvm.MethodName)) ∈ lw_all := lw_g (lw_at lw_m27 22 rfl) rfl
theorem q6655 : (Jvm.Cond.code ({ cls := "WasteHouse", name := "take", desc := "(I)V" } : Jvm.MethodName) prog_1_method_2_code (3 : Nat) (Option.none : Option Jvm.ClassFile.FieldType)) ∈ lw_all := lw_g (lw_at lw_m27 23 rfl) rfl
theorem q6661 : (Jvm.Cond.instanceMethod ({ cls := "WasteHouse", name := "end", desc := "(I)I" } : Jvm.MethodName)) ∈ lw_all := lw_g (lw_at lw_m27 29 rfl) rfl
theorem q6662 : (Jvm.Cond.selects "WasteHouse" ({ cls := "WasteHouse", name := "end", desc := "(I)I" } : Jvm.MethodName) ({ cls := "WasteHouse", name := "end", desc := "(I)I" } : Jvm.MethodName)) ∈ lw_all := lw_g (lw_at lw_m27 30 rfl) rfl
theorem q6663 : (Jvm.Cond.code ({ cls := "WasteHouse", name := "end", desc := "(I)I" } : Jvm.MethodName) prog_1_method_4_code (3 : Nat) (Option.some Jvm.ClassFile.FieldType.int)) ∈ lw_all := lw_g (lw_at lw_m27 31 rfl) rfl
theorem q6664 : (Jvm.Cond.classLink "WasteHouse" (180 : Nat) "java/lang/IllegalArgumentException") ∈ lw_all := lw_g (lw_at lw_m27 32 rfl) rfl
theorem q6665 : (Jvm.Cond.stringRef "WasteHouse" (182 : Nat) "not so many") ∈ lw_tbl := lw_at lw_m27 33 rfl
theorem q6666 : (Jvm.Cond.methodLink "WasteHouse" (184 : Nat) ({ cls := "java/lang/IllegalArgumentException", name := "<init>", desc := "(Ljava/lang/String;)V" } : Jvm.MethodName)) ∈ lw_all := lw_g (lw_at lw_m27 34 rfl) rfl
theorem q9630 : (Jvm.Cond.castable "WasteHouse" "java/lang/Object") ∈ lw_tbl := lw_at lw_m39 118 rfl
theorem in_X1 : ∀ w ∈ wsX10, w ∈ lw_all := lw_in wsX10 [2552, 2554, 2556, 2558, 2560, 2562, 2564, 2566, 2568, 2570, 2572, 2574, 2576, 2578, 2580, 2582, 2584, 2586, 2588, 2590, 2592, 2594, 2596] (by decide +kernel) (by decide +kernel)
