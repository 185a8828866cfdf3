/-! WasteHouse$HouseRoom -/
set_option maxRecDepth 100000
def RX37 : String := "WasteHouse$HouseRoom"
def TX37 : u_T := fun k => match k with
  | 0 => ("WasteHouse$Room", "name", "Ljava/lang/String;", true)
  | 1 => ("WasteHouse$Room", "words", "Ljava/util/ArrayList;", true)
  | 2 => ("WasteHouse$Room", "needs", "Ljava/util/ArrayList;", true)
  | 3 => ("WasteHouse$HouseRoom", "chain", "LWasteHouse$TicketChain;", true)
  | 4 => ("WasteHouse$HouseRoom", "line", "LWasteHouse$ShareSolve;", true)
  | 5 => ("WasteHouse$HouseRoom", "rules", "LWasteHouse$HazardRules;", true)
  | 6 => ("WasteHouse$HouseRoom", "rounds", "LWasteHouse$RoundColumns;", true)
  | 7 => ("WasteHouse$HouseRoom", "store", "LWasteHouse$BarredStores;", true)
  | 8 => ("WasteHouse$HouseRoom", "graph", "LWasteHouse$PartGraphs;", true)
  | 9 => ("WasteHouse$HouseRoom", "apart", "LWasteHouse$ApartCost;", true)
  | 10 => ("WasteHouse$HouseRoom", "samples", "LWasteHouse$PurityOdds;", true)
  | 11 => ("WasteHouse$HouseRoom", "codes", "LWasteHouse$DepositCodes;", true)
  | 12 => ("WasteHouse$HouseRoom", "ledger", "LWasteHouse$Ledger;", true)
  | 13 => ("WasteHouse$HouseRoom", "brought", "[J", true)
  | 14 => ("WasteHouse$HouseRoom", "sold", "I", false)
  | _ => ("WasteHouse$HouseRoom", "actOf", "[I", true)
def tyX37 : Nat → FieldType := fun k => match k with
  | 0 => .object "java/lang/String"
  | 1 => .object "java/util/ArrayList"
  | 2 => .object "java/util/ArrayList"
  | 3 => .object "WasteHouse$TicketChain"
  | 4 => .object "WasteHouse$ShareSolve"
  | 5 => .object "WasteHouse$HazardRules"
  | 6 => .object "WasteHouse$RoundColumns"
  | 7 => .object "WasteHouse$BarredStores"
  | 8 => .object "WasteHouse$PartGraphs"
  | 9 => .object "WasteHouse$ApartCost"
  | 10 => .object "WasteHouse$PurityOdds"
  | 11 => .object "WasteHouse$DepositCodes"
  | 12 => .object "WasteHouse$Ledger"
  | 13 => .array .long
  | 14 => .int
  | _ => .array .int
abbrev wsX370 : List Cond := u_ws RX37 TX37 16
set_option maxRecDepth 100000 in
theorem nmX37 : ∀ a, a < 16 → ∀ b, b < 16 → a ≠ b → (TX37 a).2.1 ≠ (TX37 b).2.1 := by decide +kernel
set_option maxRecDepth 100000 in
theorem tyX37_ok : ∀ k, k < 16 → parseFieldDescriptor (TX37 k).2.2.1 = some (tyX37 k) := by decide +kernel
abbrev cX37_init : ByteArray := prog_24_method_1_code
def yX37_init : MethodName := ⟨RX37, "<init>", "(LWasteHouse$TicketChain;LWasteHouse$ShareSolve;LWasteHouse$HazardRules;LWasteHouse$RoundColumns;LWasteHouse$BarredStores;LWasteHouse$PartGraphs;LWasteHouse$ApartCost;LWasteHouse$PurityOdds;LWasteHouse$DepositCodes;)V"⟩
def dkwX37_init_7 : List UInt8 := [182, 0, 70, 42, 18, 104, 18, 80, 182, 0, 70, 42, 18, 105, 18, 76, 182, 0, 70, 177]
abbrev dktX37_init_7 : List UInt8 := dkwX37_init_7 ++ []
def dkwX37_init_6 : List UInt8 := [182, 0, 70, 42, 18, 98, 18, 80, 182, 0, 70, 42, 18, 100, 18, 76, 182, 0, 70, 42, 18, 102, 18, 88]
abbrev dktX37_init_6 : List UInt8 := dkwX37_init_6 ++ dktX37_init_7
def dkwX37_init_5 : List UInt8 := [182, 0, 70, 42, 18, 90, 18, 76, 182, 0, 70, 42, 18, 92, 18, 94, 182, 0, 70, 42, 18, 96, 18, 84]
abbrev dktX37_init_5 : List UInt8 := dkwX37_init_5 ++ dktX37_init_6
def dkwX37_init_4 : List UInt8 := [182, 0, 70, 42, 18, 78, 18, 80, 182, 0, 70, 42, 18, 82, 18, 84, 182, 0, 70, 42, 18, 86, 18, 88]
abbrev dktX37_init_4 : List UInt8 := dkwX37_init_4 ++ dktX37_init_5
def dkwX37_init_3 : List UInt8 := [25, 8, 181, 0, 58, 42, 25, 9, 181, 0, 62, 42, 18, 66, 18, 68, 182, 0, 70, 42, 18, 74, 18, 76]
abbrev dktX37_init_3 : List UInt8 := dkwX37_init_3 ++ dktX37_init_4
def dkwX37_init_2 : List UInt8 := [25, 4, 181, 0, 42, 42, 25, 5, 181, 0, 46, 42, 25, 6, 181, 0, 50, 42, 25, 7, 181, 0, 54, 42]
abbrev dktX37_init_2 : List UInt8 := dkwX37_init_2 ++ dktX37_init_3
def dkwX37_init_1 : List UInt8 := [42, 16, 10, 188, 10, 181, 0, 26, 42, 43, 181, 0, 30, 42, 44, 181, 0, 34, 42, 45, 181, 0, 38, 42]
abbrev dktX37_init_1 : List UInt8 := dkwX37_init_1 ++ dktX37_init_2
def dkwX37_init_0 : List UInt8 := [42, 18, 3, 183, 0, 5, 42, 187, 0, 11, 89, 183, 0, 13, 181, 0, 16, 42, 6, 188, 11, 181, 0, 22]
abbrev dktX37_init_0 : List UInt8 := dkwX37_init_0 ++ dktX37_init_1
theorem dksX37_init_0 : cX37_init.data.toList.drop 0 = dktX37_init_0 := by decide +kernel
theorem dksX37_init_1 : cX37_init.data.toList.drop 24 = dktX37_init_1 := dk_seg dksX37_init_0 24 rfl rfl
theorem dksX37_init_2 : cX37_init.data.toList.drop 48 = dktX37_init_2 := dk_seg dksX37_init_1 24 rfl rfl
theorem dksX37_init_3 : cX37_init.data.toList.drop 72 = dktX37_init_3 := dk_seg dksX37_init_2 24 rfl rfl
theorem dksX37_init_4 : cX37_init.data.toList.drop 96 = dktX37_init_4 := dk_seg dksX37_init_3 24 rfl rfl
theorem dksX37_init_5 : cX37_init.data.toList.drop 120 = dktX37_init_5 := dk_seg dksX37_init_4 24 rfl rfl
theorem dksX37_init_6 : cX37_init.data.toList.drop 144 = dktX37_init_6 := dk_seg dksX37_init_5 24 rfl rfl
theorem dksX37_init_7 : cX37_init.data.toList.drop 168 = dktX37_init_7 := dk_seg dksX37_init_6 24 rfl rfl
theorem dX37_init_0 : decode cX37_init 0 = .ok (.aload_n 0, 1) := dk_42 (dk_at dksX37_init_0 0 rfl rfl)
theorem dX37_init_1 : decode cX37_init 1 = .ok (.ldc 3, 2) := dk_18 3 (dk_at dksX37_init_0 1 rfl rfl)
theorem dX37_init_3 : decode cX37_init 3 = .ok (.invokespecial 5, 3) := dk_183 0 5 (dk_at dksX37_init_0 3 rfl rfl)
theorem dX37_init_6 : decode cX37_init 6 = .ok (.aload_n 0, 1) := dk_42 (dk_at dksX37_init_0 6 rfl rfl)
theorem dX37_init_7 : decode cX37_init 7 = .ok (.new 11, 3) := dk_187 0 11 (dk_at dksX37_init_0 7 rfl rfl)
theorem dX37_init_10 : decode cX37_init 10 = .ok (.dup, 1) := dk_89 (dk_at dksX37_init_0 10 rfl rfl)
theorem dX37_init_11 : decode cX37_init 11 = .ok (.invokespecial 13, 3) := dk_183 0 13 (dk_at dksX37_init_0 11 rfl rfl)
theorem dX37_init_14 : decode cX37_init 14 = .ok (.putfield 16, 3) := dk_181 0 16 (dk_at dksX37_init_0 14 rfl rfl)
theorem dX37_init_17 : decode cX37_init 17 = .ok (.aload_n 0, 1) := dk_42 (dk_at dksX37_init_0 17 rfl rfl)
theorem dX37_init_18 : decode cX37_init 18 = .ok (.iconst 3, 1) := dk_6 (dk_at dksX37_init_0 18 rfl rfl)
theorem dX37_init_19 : decode cX37_init 19 = .ok (.newarray .long, 2) := dk_188_11 (dk_at dksX37_init_0 19 rfl rfl)
theorem dX37_init_21 : decode cX37_init 21 = .ok (.putfield 22, 3) := dk_181 0 22 (dk_at dksX37_init_0 21 rfl rfl)
theorem dX37_init_24 : decode cX37_init 24 = .ok (.aload_n 0, 1) := dk_42 (dk_at dksX37_init_1 0 rfl rfl)
theorem dX37_init_25 : decode cX37_init 25 = .ok (.bipush 10, 2) := dk_16 10 (dk_at dksX37_init_1 1 rfl rfl)
theorem dX37_init_27 : decode cX37_init 27 = .ok (.newarray .int, 2) := dk_188_10 (dk_at dksX37_init_1 3 rfl rfl)
theorem dX37_init_29 : decode cX37_init 29 = .ok (.putfield 26, 3) := dk_181 0 26 (dk_at dksX37_init_1 5 rfl rfl)
theorem dX37_init_32 : decode cX37_init 32 = .ok (.aload_n 0, 1) := dk_42 (dk_at dksX37_init_1 8 rfl rfl)
theorem dX37_init_33 : decode cX37_init 33 = .ok (.aload_n 1, 1) := dk_43 (dk_at dksX37_init_1 9 rfl rfl)
theorem dX37_init_34 : decode cX37_init 34 = .ok (.putfield 30, 3) := dk_181 0 30 (dk_at dksX37_init_1 10 rfl rfl)
theorem dX37_init_37 : decode cX37_init 37 = .ok (.aload_n 0, 1) := dk_42 (dk_at dksX37_init_1 13 rfl rfl)
theorem dX37_init_38 : decode cX37_init 38 = .ok (.aload_n 2, 1) := dk_44 (dk_at dksX37_init_1 14 rfl rfl)
theorem dX37_init_39 : decode cX37_init 39 = .ok (.putfield 34, 3) := dk_181 0 34 (dk_at dksX37_init_1 15 rfl rfl)
theorem dX37_init_42 : decode cX37_init 42 = .ok (.aload_n 0, 1) := dk_42 (dk_at dksX37_init_1 18 rfl rfl)
theorem dX37_init_43 : decode cX37_init 43 = .ok (.aload_n 3, 1) := dk_45 (dk_at dksX37_init_1 19 rfl rfl)
theorem dX37_init_44 : decode cX37_init 44 = .ok (.putfield 38, 3) := dk_181 0 38 (dk_at dksX37_init_1 20 rfl rfl)
theorem dX37_init_47 : decode cX37_init 47 = .ok (.aload_n 0, 1) := dk_42 (dk_at dksX37_init_1 23 rfl rfl)
theorem dX37_init_48 : decode cX37_init 48 = .ok (.aload 4, 2) := dk_25 4 (dk_at dksX37_init_2 0 rfl rfl)
theorem dX37_init_50 : decode cX37_init 50 = .ok (.putfield 42, 3) := dk_181 0 42 (dk_at dksX37_init_2 2 rfl rfl)
theorem dX37_init_53 : decode cX37_init 53 = .ok (.aload_n 0, 1) := dk_42 (dk_at dksX37_init_2 5 rfl rfl)
theorem dX37_init_54 : decode cX37_init 54 = .ok (.aload 5, 2) := dk_25 5 (dk_at dksX37_init_2 6 rfl rfl)
theorem dX37_init_56 : decode cX37_init 56 = .ok (.putfield 46, 3) := dk_181 0 46 (dk_at dksX37_init_2 8 rfl rfl)
theorem dX37_init_59 : decode cX37_init 59 = .ok (.aload_n 0, 1) := dk_42 (dk_at dksX37_init_2 11 rfl rfl)
theorem dX37_init_60 : decode cX37_init 60 = .ok (.aload 6, 2) := dk_25 6 (dk_at dksX37_init_2 12 rfl rfl)
theorem dX37_init_62 : decode cX37_init 62 = .ok (.putfield 50, 3) := dk_181 0 50 (dk_at dksX37_init_2 14 rfl rfl)
theorem dX37_init_65 : decode cX37_init 65 = .ok (.aload_n 0, 1) := dk_42 (dk_at dksX37_init_2 17 rfl rfl)
theorem dX37_init_66 : decode cX37_init 66 = .ok (.aload 7, 2) := dk_25 7 (dk_at dksX37_init_2 18 rfl rfl)
theorem dX37_init_68 : decode cX37_init 68 = .ok (.putfield 54, 3) := dk_181 0 54 (dk_at dksX37_init_2 20 rfl rfl)
theorem dX37_init_71 : decode cX37_init 71 = .ok (.aload_n 0, 1) := dk_42 (dk_at dksX37_init_2 23 rfl rfl)
theorem dX37_init_72 : decode cX37_init 72 = .ok (.aload 8, 2) := dk_25 8 (dk_at dksX37_init_3 0 rfl rfl)
theorem dX37_init_74 : decode cX37_init 74 = .ok (.putfield 58, 3) := dk_181 0 58 (dk_at dksX37_init_3 2 rfl rfl)
theorem dX37_init_77 : decode cX37_init 77 = .ok (.aload_n 0, 1) := dk_42 (dk_at dksX37_init_3 5 rfl rfl)
theorem dX37_init_78 : decode cX37_init 78 = .ok (.aload 9, 2) := dk_25 9 (dk_at dksX37_init_3 6 rfl rfl)
theorem dX37_init_80 : decode cX37_init 80 = .ok (.putfield 62, 3) := dk_181 0 62 (dk_at dksX37_init_3 8 rfl rfl)
theorem dX37_init_83 : decode cX37_init 83 = .ok (.aload_n 0, 1) := dk_42 (dk_at dksX37_init_3 11 rfl rfl)
theorem dX37_init_84 : decode cX37_init 84 = .ok (.ldc 66, 2) := dk_18 66 (dk_at dksX37_init_3 12 rfl rfl)
theorem dX37_init_86 : decode cX37_init 86 = .ok (.ldc 68, 2) := dk_18 68 (dk_at dksX37_init_3 14 rfl rfl)
theorem dX37_init_88 : decode cX37_init 88 = .ok (.invokevirtual 70, 3) := dk_182 0 70 (dk_at dksX37_init_3 16 rfl rfl)
theorem dX37_init_91 : decode cX37_init 91 = .ok (.aload_n 0, 1) := dk_42 (dk_at dksX37_init_3 19 rfl rfl)
theorem dX37_init_92 : decode cX37_init 92 = .ok (.ldc 74, 2) := dk_18 74 (dk_at dksX37_init_3 20 rfl rfl)
theorem dX37_init_94 : decode cX37_init 94 = .ok (.ldc 76, 2) := dk_18 76 (dk_at dksX37_init_3 22 rfl rfl)
theorem dX37_init_96 : decode cX37_init 96 = .ok (.invokevirtual 70, 3) := dk_182 0 70 (dk_at dksX37_init_4 0 rfl rfl)
theorem dX37_init_99 : decode cX37_init 99 = .ok (.aload_n 0, 1) := dk_42 (dk_at dksX37_init_4 3 rfl rfl)
theorem dX37_init_100 : decode cX37_init 100 = .ok (.ldc 78, 2) := dk_18 78 (dk_at dksX37_init_4 4 rfl rfl)
theorem dX37_init_102 : decode cX37_init 102 = .ok (.ldc 80, 2) := dk_18 80 (dk_at dksX37_init_4 6 rfl rfl)
theorem dX37_init_104 : decode cX37_init 104 = .ok (.invokevirtual 70, 3) := dk_182 0 70 (dk_at dksX37_init_4 8 rfl rfl)
theorem dX37_init_107 : decode cX37_init 107 = .ok (.aload_n 0, 1) := dk_42 (dk_at dksX37_init_4 11 rfl rfl)
theorem dX37_init_108 : decode cX37_init 108 = .ok (.ldc 82, 2) := dk_18 82 (dk_at dksX37_init_4 12 rfl rfl)
theorem dX37_init_110 : decode cX37_init 110 = .ok (.ldc 84, 2) := dk_18 84 (dk_at dksX37_init_4 14 rfl rfl)
theorem dX37_init_112 : decode cX37_init 112 = .ok (.invokevirtual 70, 3) := dk_182 0 70 (dk_at dksX37_init_4 16 rfl rfl)
theorem dX37_init_115 : decode cX37_init 115 = .ok (.aload_n 0, 1) := dk_42 (dk_at dksX37_init_4 19 rfl rfl)
theorem dX37_init_116 : decode cX37_init 116 = .ok (.ldc 86, 2) := dk_18 86 (dk_at dksX37_init_4 20 rfl rfl)
theorem dX37_init_118 : decode cX37_init 118 = .ok (.ldc 88, 2) := dk_18 88 (dk_at dksX37_init_4 22 rfl rfl)
theorem dX37_init_120 : decode cX37_init 120 = .ok (.invokevirtual 70, 3) := dk_182 0 70 (dk_at dksX37_init_5 0 rfl rfl)
theorem dX37_init_123 : decode cX37_init 123 = .ok (.aload_n 0, 1) := dk_42 (dk_at dksX37_init_5 3 rfl rfl)
theorem dX37_init_124 : decode cX37_init 124 = .ok (.ldc 90, 2) := dk_18 90 (dk_at dksX37_init_5 4 rfl rfl)
theorem dX37_init_126 : decode cX37_init 126 = .ok (.ldc 76, 2) := dk_18 76 (dk_at dksX37_init_5 6 rfl rfl)
theorem dX37_init_128 : decode cX37_init 128 = .ok (.invokevirtual 70, 3) := dk_182 0 70 (dk_at dksX37_init_5 8 rfl rfl)
theorem dX37_init_131 : decode cX37_init 131 = .ok (.aload_n 0, 1) := dk_42 (dk_at dksX37_init_5 11 rfl rfl)
theorem dX37_init_132 : decode cX37_init 132 = .ok (.ldc 92, 2) := dk_18 92 (dk_at dksX37_init_5 12 rfl rfl)
theorem dX37_init_134 : decode cX37_init 134 = .ok (.ldc 94, 2) := dk_18 94 (dk_at dksX37_init_5 14 rfl rfl)
theorem dX37_init_136 : decode cX37_init 136 = .ok (.invokevirtual 70, 3) := dk_182 0 70 (dk_at dksX37_init_5 16 rfl rfl)
theorem dX37_init_139 : decode cX37_init 139 = .ok (.aload_n 0, 1) := dk_42 (dk_at dksX37_init_5 19 rfl rfl)
theorem dX37_init_140 : decode cX37_init 140 = .ok (.ldc 96, 2) := dk_18 96 (dk_at dksX37_init_5 20 rfl rfl)
theorem dX37_init_142 : decode cX37_init 142 = .ok (.ldc 84, 2) := dk_18 84 (dk_at dksX37_init_5 22 rfl rfl)
theorem dX37_init_144 : decode cX37_init 144 = .ok (.invokevirtual 70, 3) := dk_182 0 70 (dk_at dksX37_init_6 0 rfl rfl)
theorem dX37_init_147 : decode cX37_init 147 = .ok (.aload_n 0, 1) := dk_42 (dk_at dksX37_init_6 3 rfl rfl)
theorem dX37_init_148 : decode cX37_init 148 = .ok (.ldc 98, 2) := dk_18 98 (dk_at dksX37_init_6 4 rfl rfl)
theorem dX37_init_150 : decode cX37_init 150 = .ok (.ldc 80, 2) := dk_18 80 (dk_at dksX37_init_6 6 rfl rfl)
theorem dX37_init_152 : decode cX37_init 152 = .ok (.invokevirtual 70, 3) := dk_182 0 70 (dk_at dksX37_init_6 8 rfl rfl)
theorem dX37_init_155 : decode cX37_init 155 = .ok (.aload_n 0, 1) := dk_42 (dk_at dksX37_init_6 11 rfl rfl)
theorem dX37_init_156 : decode cX37_init 156 = .ok (.ldc 100, 2) := dk_18 100 (dk_at dksX37_init_6 12 rfl rfl)
theorem dX37_init_158 : decode cX37_init 158 = .ok (.ldc 76, 2) := dk_18 76 (dk_at dksX37_init_6 14 rfl rfl)
theorem dX37_init_160 : decode cX37_init 160 = .ok (.invokevirtual 70, 3) := dk_182 0 70 (dk_at dksX37_init_6 16 rfl rfl)
theorem dX37_init_163 : decode cX37_init 163 = .ok (.aload_n 0, 1) := dk_42 (dk_at dksX37_init_6 19 rfl rfl)
theorem dX37_init_164 : decode cX37_init 164 = .ok (.ldc 102, 2) := dk_18 102 (dk_at dksX37_init_6 20 rfl rfl)
theorem dX37_init_166 : decode cX37_init 166 = .ok (.ldc 88, 2) := dk_18 88 (dk_at dksX37_init_6 22 rfl rfl)
theorem dX37_init_168 : decode cX37_init 168 = .ok (.invokevirtual 70, 3) := dk_182 0 70 (dk_at dksX37_init_7 0 rfl rfl)
theorem dX37_init_171 : decode cX37_init 171 = .ok (.aload_n 0, 1) := dk_42 (dk_at dksX37_init_7 3 rfl rfl)
theorem dX37_init_172 : decode cX37_init 172 = .ok (.ldc 104, 2) := dk_18 104 (dk_at dksX37_init_7 4 rfl rfl)
theorem dX37_init_174 : decode cX37_init 174 = .ok (.ldc 80, 2) := dk_18 80 (dk_at dksX37_init_7 6 rfl rfl)
theorem dX37_init_176 : decode cX37_init 176 = .ok (.invokevirtual 70, 3) := dk_182 0 70 (dk_at dksX37_init_7 8 rfl rfl)
theorem dX37_init_179 : decode cX37_init 179 = .ok (.aload_n 0, 1) := dk_42 (dk_at dksX37_init_7 11 rfl rfl)
theorem dX37_init_180 : decode cX37_init 180 = .ok (.ldc 105, 2) := dk_18 105 (dk_at dksX37_init_7 12 rfl rfl)
theorem dX37_init_182 : decode cX37_init 182 = .ok (.ldc 76, 2) := dk_18 76 (dk_at dksX37_init_7 14 rfl rfl)
theorem dX37_init_184 : decode cX37_init 184 = .ok (.invokevirtual 70, 3) := dk_182 0 70 (dk_at dksX37_init_7 16 rfl rfl)
theorem dX37_init_187 : decode cX37_init 187 = .ok (.return_, 1) := dk_177 (dk_at dksX37_init_7 19 rfl rfl)
abbrev cX37_call : ByteArray := prog_24_method_2_code
def yX37_call : MethodName := ⟨RX37, "call", "(I[J)J"⟩
def dkwX37_call_10 : List UInt8 := [173]
abbrev dktX37_call_10 : List UInt8 := dkwX37_call_10 ++ []
def dkwX37_call_9 : List UInt8 := [182, 0, 147, 153, 0, 17, 42, 180, 0, 46, 182, 0, 151, 153, 0, 7, 4, 167, 0, 4, 3, 184, 0, 156]
abbrev dktX37_call_9 : List UInt8 := dkwX37_call_9 ++ dktX37_call_10
def dkwX37_call_8 : List UInt8 := [47, 167, 0, 6, 20, 0, 139, 173, 42, 180, 0, 30, 3, 182, 0, 141, 154, 0, 27, 42, 180, 0, 16]
abbrev dktX37_call_8 : List UInt8 := dkwX37_call_8 ++ dktX37_call_9
def dkwX37_call_7 : List UInt8 := [133, 173, 42, 29, 21, 4, 182, 0, 137, 173, 29, 155, 0, 17, 29, 6, 162, 0, 12, 42, 180, 0, 22, 29]
abbrev dktX37_call_7 : List UInt8 := dkwX37_call_7 ++ dktX37_call_8
def dkwX37_call_6 : List UInt8 := [162, 0, 15, 42, 180, 0, 16, 180, 0, 130, 29, 47, 167, 0, 4, 9, 173, 42, 180, 0, 16, 180, 0, 133]
abbrev dktX37_call_6 : List UInt8 := dkwX37_call_6 ++ dktX37_call_7
def dkwX37_call_5 : List UInt8 := [42, 29, 44, 4, 47, 182, 0, 128, 173, 29, 155, 0, 27, 29, 42, 180, 0, 16, 180, 0, 130, 190]
abbrev dktX37_call_5 : List UInt8 := dkwX37_call_5 ++ dktX37_call_6
def dkwX37_call_4 : List UInt8 := [182, 0, 123, 173, 42, 29, 44, 4, 47, 44, 5, 47, 136, 44, 6, 47, 136, 44, 7, 47, 182, 0, 125, 173]
abbrev dktX37_call_4 : List UInt8 := dkwX37_call_4 ++ dktX37_call_5
def dkwX37_call_3 : List UInt8 := [42, 29, 182, 0, 113, 173, 42, 29, 44, 4, 47, 182, 0, 116, 173, 42, 29, 21, 4, 182, 0, 120, 173, 42]
abbrev dktX37_call_3 : List UInt8 := dkwX37_call_3 ++ dktX37_call_4
def dkwX37_call_2 : List UInt8 := [42, 29, 21, 4, 44, 5, 47, 136, 44, 6, 47, 44, 7, 47, 136, 182, 0, 107, 173, 42, 182, 0, 110, 173]
abbrev dktX37_call_2 : List UInt8 := dkwX37_call_2 ++ dktX37_call_3
def dkwX37_call_1 : List UInt8 := [170, 0, 0, 0, 0, 0, 0, 214, 0, 0, 0, 0, 0, 0, 0, 11, 0, 0, 0, 64, 0, 0, 0, 83, 0, 0, 0, 88, 0, 0, 0, 94, 0, 0, 0, 103, 0, 0, 0, 111, 0, 0, 0, 116, 0, 0, 0, 136, 0, 0, 0, 145, 0, 0, 0, 175, 0, 0, 0, 184, 0, 0, 0, 192]
abbrev dktX37_call_1 : List UInt8 := dkwX37_call_1 ++ dktX37_call_2
def dkwX37_call_0 : List UInt8 := [44, 3, 47, 136, 62, 44, 4, 47, 136, 54, 4, 27]
abbrev dktX37_call_0 : List UInt8 := dkwX37_call_0 ++ dktX37_call_1
theorem dksX37_call_0 : cX37_call.data.toList.drop 0 = dktX37_call_0 := by decide +kernel
theorem dksX37_call_1 : cX37_call.data.toList.drop 12 = dktX37_call_1 := dk_seg dksX37_call_0 12 rfl rfl
theorem dksX37_call_2 : cX37_call.data.toList.drop 76 = dktX37_call_2 := dk_seg dksX37_call_1 64 rfl rfl
theorem dksX37_call_3 : cX37_call.data.toList.drop 100 = dktX37_call_3 := dk_seg dksX37_call_2 24 rfl rfl
theorem dksX37_call_4 : cX37_call.data.toList.drop 124 = dktX37_call_4 := dk_seg dksX37_call_3 24 rfl rfl
theorem dksX37_call_5 : cX37_call.data.toList.drop 148 = dktX37_call_5 := dk_seg dksX37_call_4 24 rfl rfl
theorem dksX37_call_6 : cX37_call.data.toList.drop 170 = dktX37_call_6 := dk_seg dksX37_call_5 22 rfl rfl
theorem dksX37_call_7 : cX37_call.data.toList.drop 194 = dktX37_call_7 := dk_seg dksX37_call_6 24 rfl rfl
theorem dksX37_call_8 : cX37_call.data.toList.drop 218 = dktX37_call_8 := dk_seg dksX37_call_7 24 rfl rfl
theorem dksX37_call_9 : cX37_call.data.toList.drop 241 = dktX37_call_9 := dk_seg dksX37_call_8 23 rfl rfl
theorem dksX37_call_10 : cX37_call.data.toList.drop 265 = dktX37_call_10 := dk_seg dksX37_call_9 24 rfl rfl
theorem dX37_call_0 : decode cX37_call 0 = .ok (.aload_n 2, 1) := dk_44 (dk_at dksX37_call_0 0 rfl rfl)
theorem dX37_call_1 : decode cX37_call 1 = .ok (.iconst 0, 1) := dk_3 (dk_at dksX37_call_0 1 rfl rfl)
theorem dX37_call_2 : decode cX37_call 2 = .ok (.laload, 1) := dk_47 (dk_at dksX37_call_0 2 rfl rfl)
theorem dX37_call_3 : decode cX37_call 3 = .ok (.l2i, 1) := dk_136 (dk_at dksX37_call_0 3 rfl rfl)
theorem dX37_call_4 : decode cX37_call 4 = .ok (.istore_n 3, 1) := dk_62 (dk_at dksX37_call_0 4 rfl rfl)
theorem dX37_call_5 : decode cX37_call 5 = .ok (.aload_n 2, 1) := dk_44 (dk_at dksX37_call_0 5 rfl rfl)
theorem dX37_call_6 : decode cX37_call 6 = .ok (.iconst 1, 1) := dk_4 (dk_at dksX37_call_0 6 rfl rfl)
theorem dX37_call_7 : decode cX37_call 7 = .ok (.laload, 1) := dk_47 (dk_at dksX37_call_0 7 rfl rfl)
theorem dX37_call_8 : decode cX37_call 8 = .ok (.l2i, 1) := dk_136 (dk_at dksX37_call_0 8 rfl rfl)
theorem dX37_call_9 : decode cX37_call 9 = .ok (.istore 4, 2) := dk_54 4 (dk_at dksX37_call_0 9 rfl rfl)
theorem dX37_call_11 : decode cX37_call 11 = .ok (.iload_n 1, 1) := dk_27 (dk_at dksX37_call_0 11 rfl rfl)
theorem dX37_call_12 : decode cX37_call 12 = .ok (.tableswitch 214 0 11 #[64, 83, 88, 94, 103, 111, 116, 136, 145, 175, 184, 192], 64) := by decide +kernel
theorem dX37_call_76 : decode cX37_call 76 = .ok (.aload_n 0, 1) := dk_42 (dk_at dksX37_call_2 0 rfl rfl)
theorem dX37_call_77 : decode cX37_call 77 = .ok (.iload_n 3, 1) := dk_29 (dk_at dksX37_call_2 1 rfl rfl)
theorem dX37_call_78 : decode cX37_call 78 = .ok (.iload 4, 2) := dk_21 4 (dk_at dksX37_call_2 2 rfl rfl)
theorem dX37_call_80 : decode cX37_call 80 = .ok (.aload_n 2, 1) := dk_44 (dk_at dksX37_call_2 4 rfl rfl)
theorem dX37_call_81 : decode cX37_call 81 = .ok (.iconst 2, 1) := dk_5 (dk_at dksX37_call_2 5 rfl rfl)
theorem dX37_call_82 : decode cX37_call 82 = .ok (.laload, 1) := dk_47 (dk_at dksX37_call_2 6 rfl rfl)
theorem dX37_call_83 : decode cX37_call 83 = .ok (.l2i, 1) := dk_136 (dk_at dksX37_call_2 7 rfl rfl)
theorem dX37_call_84 : decode cX37_call 84 = .ok (.aload_n 2, 1) := dk_44 (dk_at dksX37_call_2 8 rfl rfl)
theorem dX37_call_85 : decode cX37_call 85 = .ok (.iconst 3, 1) := dk_6 (dk_at dksX37_call_2 9 rfl rfl)
theorem dX37_call_86 : decode cX37_call 86 = .ok (.laload, 1) := dk_47 (dk_at dksX37_call_2 10 rfl rfl)
theorem dX37_call_87 : decode cX37_call 87 = .ok (.aload_n 2, 1) := dk_44 (dk_at dksX37_call_2 11 rfl rfl)
theorem dX37_call_88 : decode cX37_call 88 = .ok (.iconst 4, 1) := dk_7 (dk_at dksX37_call_2 12 rfl rfl)
theorem dX37_call_89 : decode cX37_call 89 = .ok (.laload, 1) := dk_47 (dk_at dksX37_call_2 13 rfl rfl)
theorem dX37_call_90 : decode cX37_call 90 = .ok (.l2i, 1) := dk_136 (dk_at dksX37_call_2 14 rfl rfl)
theorem dX37_call_91 : decode cX37_call 91 = .ok (.invokevirtual 107, 3) := dk_182 0 107 (dk_at dksX37_call_2 15 rfl rfl)
theorem dX37_call_94 : decode cX37_call 94 = .ok (.lreturn, 1) := dk_173 (dk_at dksX37_call_2 18 rfl rfl)
theorem dX37_call_95 : decode cX37_call 95 = .ok (.aload_n 0, 1) := dk_42 (dk_at dksX37_call_2 19 rfl rfl)
theorem dX37_call_96 : decode cX37_call 96 = .ok (.invokevirtual 110, 3) := dk_182 0 110 (dk_at dksX37_call_2 20 rfl rfl)
theorem dX37_call_99 : decode cX37_call 99 = .ok (.lreturn, 1) := dk_173 (dk_at dksX37_call_2 23 rfl rfl)
theorem dX37_call_100 : decode cX37_call 100 = .ok (.aload_n 0, 1) := dk_42 (dk_at dksX37_call_3 0 rfl rfl)
theorem dX37_call_101 : decode cX37_call 101 = .ok (.iload_n 3, 1) := dk_29 (dk_at dksX37_call_3 1 rfl rfl)
theorem dX37_call_102 : decode cX37_call 102 = .ok (.invokevirtual 113, 3) := dk_182 0 113 (dk_at dksX37_call_3 2 rfl rfl)
theorem dX37_call_105 : decode cX37_call 105 = .ok (.lreturn, 1) := dk_173 (dk_at dksX37_call_3 5 rfl rfl)
theorem dX37_call_106 : decode cX37_call 106 = .ok (.aload_n 0, 1) := dk_42 (dk_at dksX37_call_3 6 rfl rfl)
theorem dX37_call_107 : decode cX37_call 107 = .ok (.iload_n 3, 1) := dk_29 (dk_at dksX37_call_3 7 rfl rfl)
theorem dX37_call_108 : decode cX37_call 108 = .ok (.aload_n 2, 1) := dk_44 (dk_at dksX37_call_3 8 rfl rfl)
theorem dX37_call_109 : decode cX37_call 109 = .ok (.iconst 1, 1) := dk_4 (dk_at dksX37_call_3 9 rfl rfl)
theorem dX37_call_110 : decode cX37_call 110 = .ok (.laload, 1) := dk_47 (dk_at dksX37_call_3 10 rfl rfl)
theorem dX37_call_111 : decode cX37_call 111 = .ok (.invokevirtual 116, 3) := dk_182 0 116 (dk_at dksX37_call_3 11 rfl rfl)
theorem dX37_call_114 : decode cX37_call 114 = .ok (.lreturn, 1) := dk_173 (dk_at dksX37_call_3 14 rfl rfl)
theorem dX37_call_115 : decode cX37_call 115 = .ok (.aload_n 0, 1) := dk_42 (dk_at dksX37_call_3 15 rfl rfl)
theorem dX37_call_116 : decode cX37_call 116 = .ok (.iload_n 3, 1) := dk_29 (dk_at dksX37_call_3 16 rfl rfl)
theorem dX37_call_117 : decode cX37_call 117 = .ok (.iload 4, 2) := dk_21 4 (dk_at dksX37_call_3 17 rfl rfl)
theorem dX37_call_119 : decode cX37_call 119 = .ok (.invokevirtual 120, 3) := dk_182 0 120 (dk_at dksX37_call_3 19 rfl rfl)
theorem dX37_call_122 : decode cX37_call 122 = .ok (.lreturn, 1) := dk_173 (dk_at dksX37_call_3 22 rfl rfl)
theorem dX37_call_123 : decode cX37_call 123 = .ok (.aload_n 0, 1) := dk_42 (dk_at dksX37_call_3 23 rfl rfl)
theorem dX37_call_124 : decode cX37_call 124 = .ok (.invokevirtual 123, 3) := dk_182 0 123 (dk_at dksX37_call_4 0 rfl rfl)
theorem dX37_call_127 : decode cX37_call 127 = .ok (.lreturn, 1) := dk_173 (dk_at dksX37_call_4 3 rfl rfl)
theorem dX37_call_128 : decode cX37_call 128 = .ok (.aload_n 0, 1) := dk_42 (dk_at dksX37_call_4 4 rfl rfl)
theorem dX37_call_129 : decode cX37_call 129 = .ok (.iload_n 3, 1) := dk_29 (dk_at dksX37_call_4 5 rfl rfl)
theorem dX37_call_130 : decode cX37_call 130 = .ok (.aload_n 2, 1) := dk_44 (dk_at dksX37_call_4 6 rfl rfl)
theorem dX37_call_131 : decode cX37_call 131 = .ok (.iconst 1, 1) := dk_4 (dk_at dksX37_call_4 7 rfl rfl)
theorem dX37_call_132 : decode cX37_call 132 = .ok (.laload, 1) := dk_47 (dk_at dksX37_call_4 8 rfl rfl)
theorem dX37_call_133 : decode cX37_call 133 = .ok (.aload_n 2, 1) := dk_44 (dk_at dksX37_call_4 9 rfl rfl)
theorem dX37_call_134 : decode cX37_call 134 = .ok (.iconst 2, 1) := dk_5 (dk_at dksX37_call_4 10 rfl rfl)
theorem dX37_call_135 : decode cX37_call 135 = .ok (.laload, 1) := dk_47 (dk_at dksX37_call_4 11 rfl rfl)
theorem dX37_call_136 : decode cX37_call 136 = .ok (.l2i, 1) := dk_136 (dk_at dksX37_call_4 12 rfl rfl)
theorem dX37_call_137 : decode cX37_call 137 = .ok (.aload_n 2, 1) := dk_44 (dk_at dksX37_call_4 13 rfl rfl)
theorem dX37_call_138 : decode cX37_call 138 = .ok (.iconst 3, 1) := dk_6 (dk_at dksX37_call_4 14 rfl rfl)
theorem dX37_call_139 : decode cX37_call 139 = .ok (.laload, 1) := dk_47 (dk_at dksX37_call_4 15 rfl rfl)
theorem dX37_call_140 : decode cX37_call 140 = .ok (.l2i, 1) := dk_136 (dk_at dksX37_call_4 16 rfl rfl)
theorem dX37_call_141 : decode cX37_call 141 = .ok (.aload_n 2, 1) := dk_44 (dk_at dksX37_call_4 17 rfl rfl)
theorem dX37_call_142 : decode cX37_call 142 = .ok (.iconst 4, 1) := dk_7 (dk_at dksX37_call_4 18 rfl rfl)
theorem dX37_call_143 : decode cX37_call 143 = .ok (.laload, 1) := dk_47 (dk_at dksX37_call_4 19 rfl rfl)
theorem dX37_call_144 : decode cX37_call 144 = .ok (.invokevirtual 125, 3) := dk_182 0 125 (dk_at dksX37_call_4 20 rfl rfl)
theorem dX37_call_147 : decode cX37_call 147 = .ok (.lreturn, 1) := dk_173 (dk_at dksX37_call_4 23 rfl rfl)
theorem dX37_call_148 : decode cX37_call 148 = .ok (.aload_n 0, 1) := dk_42 (dk_at dksX37_call_5 0 rfl rfl)
theorem dX37_call_149 : decode cX37_call 149 = .ok (.iload_n 3, 1) := dk_29 (dk_at dksX37_call_5 1 rfl rfl)
theorem dX37_call_150 : decode cX37_call 150 = .ok (.aload_n 2, 1) := dk_44 (dk_at dksX37_call_5 2 rfl rfl)
theorem dX37_call_151 : decode cX37_call 151 = .ok (.iconst 1, 1) := dk_4 (dk_at dksX37_call_5 3 rfl rfl)
theorem dX37_call_152 : decode cX37_call 152 = .ok (.laload, 1) := dk_47 (dk_at dksX37_call_5 4 rfl rfl)
theorem dX37_call_153 : decode cX37_call 153 = .ok (.invokevirtual 128, 3) := dk_182 0 128 (dk_at dksX37_call_5 5 rfl rfl)
theorem dX37_call_156 : decode cX37_call 156 = .ok (.lreturn, 1) := dk_173 (dk_at dksX37_call_5 8 rfl rfl)
theorem dX37_call_157 : decode cX37_call 157 = .ok (.iload_n 3, 1) := dk_29 (dk_at dksX37_call_5 9 rfl rfl)
theorem dX37_call_158 : decode cX37_call 158 = .ok (.ifCond .lt 27, 3) := dk_155 0 27 (dk_at dksX37_call_5 10 rfl rfl)
theorem dX37_call_161 : decode cX37_call 161 = .ok (.iload_n 3, 1) := dk_29 (dk_at dksX37_call_5 13 rfl rfl)
theorem dX37_call_162 : decode cX37_call 162 = .ok (.aload_n 0, 1) := dk_42 (dk_at dksX37_call_5 14 rfl rfl)
theorem dX37_call_163 : decode cX37_call 163 = .ok (.getfield 16, 3) := dk_180 0 16 (dk_at dksX37_call_5 15 rfl rfl)
theorem dX37_call_166 : decode cX37_call 166 = .ok (.getfield 130, 3) := dk_180 0 130 (dk_at dksX37_call_5 18 rfl rfl)
theorem dX37_call_169 : decode cX37_call 169 = .ok (.arraylength, 1) := dk_190 (dk_at dksX37_call_5 21 rfl rfl)
theorem dX37_call_170 : decode cX37_call 170 = .ok (.if_icmp .ge 15, 3) := dk_162 0 15 (dk_at dksX37_call_6 0 rfl rfl)
theorem dX37_call_173 : decode cX37_call 173 = .ok (.aload_n 0, 1) := dk_42 (dk_at dksX37_call_6 3 rfl rfl)
theorem dX37_call_174 : decode cX37_call 174 = .ok (.getfield 16, 3) := dk_180 0 16 (dk_at dksX37_call_6 4 rfl rfl)
theorem dX37_call_177 : decode cX37_call 177 = .ok (.getfield 130, 3) := dk_180 0 130 (dk_at dksX37_call_6 7 rfl rfl)
theorem dX37_call_180 : decode cX37_call 180 = .ok (.iload_n 3, 1) := dk_29 (dk_at dksX37_call_6 10 rfl rfl)
theorem dX37_call_181 : decode cX37_call 181 = .ok (.laload, 1) := dk_47 (dk_at dksX37_call_6 11 rfl rfl)
theorem dX37_call_182 : decode cX37_call 182 = .ok (.goto 4, 3) := dk_167 0 4 (dk_at dksX37_call_6 12 rfl rfl)
theorem dX37_call_185 : decode cX37_call 185 = .ok (.lconst 0, 1) := dk_9 (dk_at dksX37_call_6 15 rfl rfl)
theorem dX37_call_186 : decode cX37_call 186 = .ok (.lreturn, 1) := dk_173 (dk_at dksX37_call_6 16 rfl rfl)
theorem dX37_call_187 : decode cX37_call 187 = .ok (.aload_n 0, 1) := dk_42 (dk_at dksX37_call_6 17 rfl rfl)
theorem dX37_call_188 : decode cX37_call 188 = .ok (.getfield 16, 3) := dk_180 0 16 (dk_at dksX37_call_6 18 rfl rfl)
theorem dX37_call_191 : decode cX37_call 191 = .ok (.getfield 133, 3) := dk_180 0 133 (dk_at dksX37_call_6 21 rfl rfl)
theorem dX37_call_194 : decode cX37_call 194 = .ok (.i2l, 1) := dk_133 (dk_at dksX37_call_7 0 rfl rfl)
theorem dX37_call_195 : decode cX37_call 195 = .ok (.lreturn, 1) := dk_173 (dk_at dksX37_call_7 1 rfl rfl)
theorem dX37_call_196 : decode cX37_call 196 = .ok (.aload_n 0, 1) := dk_42 (dk_at dksX37_call_7 2 rfl rfl)
theorem dX37_call_197 : decode cX37_call 197 = .ok (.iload_n 3, 1) := dk_29 (dk_at dksX37_call_7 3 rfl rfl)
theorem dX37_call_198 : decode cX37_call 198 = .ok (.iload 4, 2) := dk_21 4 (dk_at dksX37_call_7 4 rfl rfl)
theorem dX37_call_200 : decode cX37_call 200 = .ok (.invokevirtual 137, 3) := dk_182 0 137 (dk_at dksX37_call_7 6 rfl rfl)
theorem dX37_call_203 : decode cX37_call 203 = .ok (.lreturn, 1) := dk_173 (dk_at dksX37_call_7 9 rfl rfl)
theorem dX37_call_204 : decode cX37_call 204 = .ok (.iload_n 3, 1) := dk_29 (dk_at dksX37_call_7 10 rfl rfl)
theorem dX37_call_205 : decode cX37_call 205 = .ok (.ifCond .lt 17, 3) := dk_155 0 17 (dk_at dksX37_call_7 11 rfl rfl)
theorem dX37_call_208 : decode cX37_call 208 = .ok (.iload_n 3, 1) := dk_29 (dk_at dksX37_call_7 14 rfl rfl)
theorem dX37_call_209 : decode cX37_call 209 = .ok (.iconst 3, 1) := dk_6 (dk_at dksX37_call_7 15 rfl rfl)
theorem dX37_call_210 : decode cX37_call 210 = .ok (.if_icmp .ge 12, 3) := dk_162 0 12 (dk_at dksX37_call_7 16 rfl rfl)
theorem dX37_call_213 : decode cX37_call 213 = .ok (.aload_n 0, 1) := dk_42 (dk_at dksX37_call_7 19 rfl rfl)
theorem dX37_call_214 : decode cX37_call 214 = .ok (.getfield 22, 3) := dk_180 0 22 (dk_at dksX37_call_7 20 rfl rfl)
theorem dX37_call_217 : decode cX37_call 217 = .ok (.iload_n 3, 1) := dk_29 (dk_at dksX37_call_7 23 rfl rfl)
theorem dX37_call_218 : decode cX37_call 218 = .ok (.laload, 1) := dk_47 (dk_at dksX37_call_8 0 rfl rfl)
theorem dX37_call_219 : decode cX37_call 219 = .ok (.goto 6, 3) := dk_167 0 6 (dk_at dksX37_call_8 1 rfl rfl)
theorem dX37_call_222 : decode cX37_call 222 = .ok (.ldc2_w 139, 3) := dk_20 0 139 (dk_at dksX37_call_8 4 rfl rfl)
theorem dX37_call_225 : decode cX37_call 225 = .ok (.lreturn, 1) := dk_173 (dk_at dksX37_call_8 7 rfl rfl)
theorem dX37_call_226 : decode cX37_call 226 = .ok (.aload_n 0, 1) := dk_42 (dk_at dksX37_call_8 8 rfl rfl)
theorem dX37_call_227 : decode cX37_call 227 = .ok (.getfield 30, 3) := dk_180 0 30 (dk_at dksX37_call_8 9 rfl rfl)
theorem dX37_call_230 : decode cX37_call 230 = .ok (.iconst 0, 1) := dk_3 (dk_at dksX37_call_8 12 rfl rfl)
theorem dX37_call_231 : decode cX37_call 231 = .ok (.invokevirtual 141, 3) := dk_182 0 141 (dk_at dksX37_call_8 13 rfl rfl)
theorem dX37_call_234 : decode cX37_call 234 = .ok (.ifCond .ne 27, 3) := dk_154 0 27 (dk_at dksX37_call_8 16 rfl rfl)
theorem dX37_call_237 : decode cX37_call 237 = .ok (.aload_n 0, 1) := dk_42 (dk_at dksX37_call_8 19 rfl rfl)
theorem dX37_call_238 : decode cX37_call 238 = .ok (.getfield 16, 3) := dk_180 0 16 (dk_at dksX37_call_8 20 rfl rfl)
theorem dX37_call_241 : decode cX37_call 241 = .ok (.invokevirtual 147, 3) := dk_182 0 147 (dk_at dksX37_call_9 0 rfl rfl)
theorem dX37_call_244 : decode cX37_call 244 = .ok (.ifCond .eq 17, 3) := dk_153 0 17 (dk_at dksX37_call_9 3 rfl rfl)
theorem dX37_call_247 : decode cX37_call 247 = .ok (.aload_n 0, 1) := dk_42 (dk_at dksX37_call_9 6 rfl rfl)
theorem dX37_call_248 : decode cX37_call 248 = .ok (.getfield 46, 3) := dk_180 0 46 (dk_at dksX37_call_9 7 rfl rfl)
theorem dX37_call_251 : decode cX37_call 251 = .ok (.invokevirtual 151, 3) := dk_182 0 151 (dk_at dksX37_call_9 10 rfl rfl)
theorem dX37_call_254 : decode cX37_call 254 = .ok (.ifCond .eq 7, 3) := dk_153 0 7 (dk_at dksX37_call_9 13 rfl rfl)
theorem dX37_call_257 : decode cX37_call 257 = .ok (.iconst 1, 1) := dk_4 (dk_at dksX37_call_9 16 rfl rfl)
theorem dX37_call_258 : decode cX37_call 258 = .ok (.goto 4, 3) := dk_167 0 4 (dk_at dksX37_call_9 17 rfl rfl)
theorem dX37_call_261 : decode cX37_call 261 = .ok (.iconst 0, 1) := dk_3 (dk_at dksX37_call_9 20 rfl rfl)
theorem dX37_call_262 : decode cX37_call 262 = .ok (.invokestatic 156, 3) := dk_184 0 156 (dk_at dksX37_call_9 21 rfl rfl)
theorem dX37_call_265 : decode cX37_call 265 = .ok (.lreturn, 1) := dk_173 (dk_at dksX37_call_10 0 rfl rfl)
abbrev cX37_bring : ByteArray := prog_24_method_3_code
def yX37_bring : MethodName := ⟨RX37, "bring", "(IIIJI)J"⟩
def dkwX37_bring_6 : List UInt8 := [182, 0, 182, 21, 11, 133, 173]
abbrev dktX37_bring_6 : List UInt8 := dkwX37_bring_6 ++ []
def dkwX37_bring_5 : List UInt8 := [182, 0, 178, 54, 11, 21, 11, 155, 0, 20, 42, 180, 0, 22, 28, 92, 47, 21, 10, 133, 97, 80, 42, 28]
abbrev dktX37_bring_5 : List UInt8 := dkwX37_bring_5 ++ dktX37_bring_6
def dkwX37_bring_4 : List UInt8 := [46, 54, 10, 42, 180, 0, 30, 29, 28, 22, 8, 21, 10, 133, 97, 20, 0, 139, 22, 4, 21, 6]
abbrev dktX37_bring_4 : List UInt8 := dkwX37_bring_4 ++ dktX37_bring_5
def dkwX37_bring_3 : List UInt8 := [20, 0, 139, 55, 8, 22, 8, 9, 148, 156, 0, 7, 20, 0, 139, 173, 42, 180, 0, 42, 180, 0, 175, 27]
abbrev dktX37_bring_3 : List UInt8 := dkwX37_bring_3 ++ dktX37_bring_4
def dkwX37_bring_2 : List UInt8 := [148, 157, 0, 21, 42, 180, 0, 30, 29, 22, 4, 20, 0, 166, 109, 136, 182, 0, 172, 167, 0, 6]
abbrev dktX37_bring_2 : List UInt8 := dkwX37_bring_2 ++ dktX37_bring_3
def dkwX37_bring_1 : List UInt8 := [155, 0, 7, 4, 167, 0, 4, 3, 54, 7, 21, 7, 153, 0, 34, 22, 4, 20, 0, 166, 109, 20, 0, 170]
abbrev dktX37_bring_1 : List UInt8 := dkwX37_bring_1 ++ dktX37_bring_2
def dkwX37_bring_0 : List UInt8 := [42, 180, 0, 42, 27, 182, 0, 160, 153, 0, 23, 28, 155, 0, 19, 28, 6, 162, 0, 14, 22, 4, 9, 148]
abbrev dktX37_bring_0 : List UInt8 := dkwX37_bring_0 ++ dktX37_bring_1
theorem dksX37_bring_0 : cX37_bring.data.toList.drop 0 = dktX37_bring_0 := by decide +kernel
theorem dksX37_bring_1 : cX37_bring.data.toList.drop 24 = dktX37_bring_1 := dk_seg dksX37_bring_0 24 rfl rfl
theorem dksX37_bring_2 : cX37_bring.data.toList.drop 48 = dktX37_bring_2 := dk_seg dksX37_bring_1 24 rfl rfl
theorem dksX37_bring_3 : cX37_bring.data.toList.drop 70 = dktX37_bring_3 := dk_seg dksX37_bring_2 22 rfl rfl
theorem dksX37_bring_4 : cX37_bring.data.toList.drop 94 = dktX37_bring_4 := dk_seg dksX37_bring_3 24 rfl rfl
theorem dksX37_bring_5 : cX37_bring.data.toList.drop 116 = dktX37_bring_5 := dk_seg dksX37_bring_4 22 rfl rfl
theorem dksX37_bring_6 : cX37_bring.data.toList.drop 140 = dktX37_bring_6 := dk_seg dksX37_bring_5 24 rfl rfl
theorem dX37_bring_0 : decode cX37_bring 0 = .ok (.aload_n 0, 1) := dk_42 (dk_at dksX37_bring_0 0 rfl rfl)
theorem dX37_bring_1 : decode cX37_bring 1 = .ok (.getfield 42, 3) := dk_180 0 42 (dk_at dksX37_bring_0 1 rfl rfl)
theorem dX37_bring_4 : decode cX37_bring 4 = .ok (.iload_n 1, 1) := dk_27 (dk_at dksX37_bring_0 4 rfl rfl)
theorem dX37_bring_5 : decode cX37_bring 5 = .ok (.invokevirtual 160, 3) := dk_182 0 160 (dk_at dksX37_bring_0 5 rfl rfl)
theorem dX37_bring_8 : decode cX37_bring 8 = .ok (.ifCond .eq 23, 3) := dk_153 0 23 (dk_at dksX37_bring_0 8 rfl rfl)
theorem dX37_bring_11 : decode cX37_bring 11 = .ok (.iload_n 2, 1) := dk_28 (dk_at dksX37_bring_0 11 rfl rfl)
theorem dX37_bring_12 : decode cX37_bring 12 = .ok (.ifCond .lt 19, 3) := dk_155 0 19 (dk_at dksX37_bring_0 12 rfl rfl)
theorem dX37_bring_15 : decode cX37_bring 15 = .ok (.iload_n 2, 1) := dk_28 (dk_at dksX37_bring_0 15 rfl rfl)
theorem dX37_bring_16 : decode cX37_bring 16 = .ok (.iconst 3, 1) := dk_6 (dk_at dksX37_bring_0 16 rfl rfl)
theorem dX37_bring_17 : decode cX37_bring 17 = .ok (.if_icmp .ge 14, 3) := dk_162 0 14 (dk_at dksX37_bring_0 17 rfl rfl)
theorem dX37_bring_20 : decode cX37_bring 20 = .ok (.lload 4, 2) := dk_22 4 (dk_at dksX37_bring_0 20 rfl rfl)
theorem dX37_bring_22 : decode cX37_bring 22 = .ok (.lconst 0, 1) := dk_9 (dk_at dksX37_bring_0 22 rfl rfl)
theorem dX37_bring_23 : decode cX37_bring 23 = .ok (.lcmp, 1) := dk_148 (dk_at dksX37_bring_0 23 rfl rfl)
theorem dX37_bring_24 : decode cX37_bring 24 = .ok (.ifCond .lt 7, 3) := dk_155 0 7 (dk_at dksX37_bring_1 0 rfl rfl)
theorem dX37_bring_27 : decode cX37_bring 27 = .ok (.iconst 1, 1) := dk_4 (dk_at dksX37_bring_1 3 rfl rfl)
theorem dX37_bring_28 : decode cX37_bring 28 = .ok (.goto 4, 3) := dk_167 0 4 (dk_at dksX37_bring_1 4 rfl rfl)
theorem dX37_bring_31 : decode cX37_bring 31 = .ok (.iconst 0, 1) := dk_3 (dk_at dksX37_bring_1 7 rfl rfl)
theorem dX37_bring_32 : decode cX37_bring 32 = .ok (.istore 7, 2) := dk_54 7 (dk_at dksX37_bring_1 8 rfl rfl)
theorem dX37_bring_34 : decode cX37_bring 34 = .ok (.iload 7, 2) := dk_21 7 (dk_at dksX37_bring_1 10 rfl rfl)
theorem dX37_bring_36 : decode cX37_bring 36 = .ok (.ifCond .eq 34, 3) := dk_153 0 34 (dk_at dksX37_bring_1 12 rfl rfl)
theorem dX37_bring_39 : decode cX37_bring 39 = .ok (.lload 4, 2) := dk_22 4 (dk_at dksX37_bring_1 15 rfl rfl)
theorem dX37_bring_41 : decode cX37_bring 41 = .ok (.ldc2_w 166, 3) := dk_20 0 166 (dk_at dksX37_bring_1 17 rfl rfl)
theorem dX37_bring_44 : decode cX37_bring 44 = .ok (.ldiv, 1) := dk_109 (dk_at dksX37_bring_1 20 rfl rfl)
theorem dX37_bring_45 : decode cX37_bring 45 = .ok (.ldc2_w 170, 3) := dk_20 0 170 (dk_at dksX37_bring_1 21 rfl rfl)
theorem dX37_bring_48 : decode cX37_bring 48 = .ok (.lcmp, 1) := dk_148 (dk_at dksX37_bring_2 0 rfl rfl)
theorem dX37_bring_49 : decode cX37_bring 49 = .ok (.ifCond .gt 21, 3) := dk_157 0 21 (dk_at dksX37_bring_2 1 rfl rfl)
theorem dX37_bring_52 : decode cX37_bring 52 = .ok (.aload_n 0, 1) := dk_42 (dk_at dksX37_bring_2 4 rfl rfl)
theorem dX37_bring_53 : decode cX37_bring 53 = .ok (.getfield 30, 3) := dk_180 0 30 (dk_at dksX37_bring_2 5 rfl rfl)
theorem dX37_bring_56 : decode cX37_bring 56 = .ok (.iload_n 3, 1) := dk_29 (dk_at dksX37_bring_2 8 rfl rfl)
theorem dX37_bring_57 : decode cX37_bring 57 = .ok (.lload 4, 2) := dk_22 4 (dk_at dksX37_bring_2 9 rfl rfl)
theorem dX37_bring_59 : decode cX37_bring 59 = .ok (.ldc2_w 166, 3) := dk_20 0 166 (dk_at dksX37_bring_2 11 rfl rfl)
theorem dX37_bring_62 : decode cX37_bring 62 = .ok (.ldiv, 1) := dk_109 (dk_at dksX37_bring_2 14 rfl rfl)
theorem dX37_bring_63 : decode cX37_bring 63 = .ok (.l2i, 1) := dk_136 (dk_at dksX37_bring_2 15 rfl rfl)
theorem dX37_bring_64 : decode cX37_bring 64 = .ok (.invokevirtual 172, 3) := dk_182 0 172 (dk_at dksX37_bring_2 16 rfl rfl)
theorem dX37_bring_67 : decode cX37_bring 67 = .ok (.goto 6, 3) := dk_167 0 6 (dk_at dksX37_bring_2 19 rfl rfl)
theorem dX37_bring_70 : decode cX37_bring 70 = .ok (.ldc2_w 139, 3) := dk_20 0 139 (dk_at dksX37_bring_3 0 rfl rfl)
theorem dX37_bring_73 : decode cX37_bring 73 = .ok (.lstore 8, 2) := dk_55 8 (dk_at dksX37_bring_3 3 rfl rfl)
theorem dX37_bring_75 : decode cX37_bring 75 = .ok (.lload 8, 2) := dk_22 8 (dk_at dksX37_bring_3 5 rfl rfl)
theorem dX37_bring_77 : decode cX37_bring 77 = .ok (.lconst 0, 1) := dk_9 (dk_at dksX37_bring_3 7 rfl rfl)
theorem dX37_bring_78 : decode cX37_bring 78 = .ok (.lcmp, 1) := dk_148 (dk_at dksX37_bring_3 8 rfl rfl)
theorem dX37_bring_79 : decode cX37_bring 79 = .ok (.ifCond .ge 7, 3) := dk_156 0 7 (dk_at dksX37_bring_3 9 rfl rfl)
theorem dX37_bring_82 : decode cX37_bring 82 = .ok (.ldc2_w 139, 3) := dk_20 0 139 (dk_at dksX37_bring_3 12 rfl rfl)
theorem dX37_bring_85 : decode cX37_bring 85 = .ok (.lreturn, 1) := dk_173 (dk_at dksX37_bring_3 15 rfl rfl)
theorem dX37_bring_86 : decode cX37_bring 86 = .ok (.aload_n 0, 1) := dk_42 (dk_at dksX37_bring_3 16 rfl rfl)
theorem dX37_bring_87 : decode cX37_bring 87 = .ok (.getfield 42, 3) := dk_180 0 42 (dk_at dksX37_bring_3 17 rfl rfl)
theorem dX37_bring_90 : decode cX37_bring 90 = .ok (.getfield 175, 3) := dk_180 0 175 (dk_at dksX37_bring_3 20 rfl rfl)
theorem dX37_bring_93 : decode cX37_bring 93 = .ok (.iload_n 1, 1) := dk_27 (dk_at dksX37_bring_3 23 rfl rfl)
theorem dX37_bring_94 : decode cX37_bring 94 = .ok (.iaload, 1) := dk_46 (dk_at dksX37_bring_4 0 rfl rfl)
theorem dX37_bring_95 : decode cX37_bring 95 = .ok (.istore 10, 2) := dk_54 10 (dk_at dksX37_bring_4 1 rfl rfl)
theorem dX37_bring_97 : decode cX37_bring 97 = .ok (.aload_n 0, 1) := dk_42 (dk_at dksX37_bring_4 3 rfl rfl)
theorem dX37_bring_98 : decode cX37_bring 98 = .ok (.getfield 30, 3) := dk_180 0 30 (dk_at dksX37_bring_4 4 rfl rfl)
theorem dX37_bring_101 : decode cX37_bring 101 = .ok (.iload_n 3, 1) := dk_29 (dk_at dksX37_bring_4 7 rfl rfl)
theorem dX37_bring_102 : decode cX37_bring 102 = .ok (.iload_n 2, 1) := dk_28 (dk_at dksX37_bring_4 8 rfl rfl)
theorem dX37_bring_103 : decode cX37_bring 103 = .ok (.lload 8, 2) := dk_22 8 (dk_at dksX37_bring_4 9 rfl rfl)
theorem dX37_bring_105 : decode cX37_bring 105 = .ok (.iload 10, 2) := dk_21 10 (dk_at dksX37_bring_4 11 rfl rfl)
theorem dX37_bring_107 : decode cX37_bring 107 = .ok (.i2l, 1) := dk_133 (dk_at dksX37_bring_4 13 rfl rfl)
theorem dX37_bring_108 : decode cX37_bring 108 = .ok (.ladd, 1) := dk_97 (dk_at dksX37_bring_4 14 rfl rfl)
theorem dX37_bring_109 : decode cX37_bring 109 = .ok (.ldc2_w 139, 3) := dk_20 0 139 (dk_at dksX37_bring_4 15 rfl rfl)
theorem dX37_bring_112 : decode cX37_bring 112 = .ok (.lload 4, 2) := dk_22 4 (dk_at dksX37_bring_4 18 rfl rfl)
theorem dX37_bring_114 : decode cX37_bring 114 = .ok (.iload 6, 2) := dk_21 6 (dk_at dksX37_bring_4 20 rfl rfl)
theorem dX37_bring_116 : decode cX37_bring 116 = .ok (.invokevirtual 178, 3) := dk_182 0 178 (dk_at dksX37_bring_5 0 rfl rfl)
theorem dX37_bring_119 : decode cX37_bring 119 = .ok (.istore 11, 2) := dk_54 11 (dk_at dksX37_bring_5 3 rfl rfl)
theorem dX37_bring_121 : decode cX37_bring 121 = .ok (.iload 11, 2) := dk_21 11 (dk_at dksX37_bring_5 5 rfl rfl)
theorem dX37_bring_123 : decode cX37_bring 123 = .ok (.ifCond .lt 20, 3) := dk_155 0 20 (dk_at dksX37_bring_5 7 rfl rfl)
theorem dX37_bring_126 : decode cX37_bring 126 = .ok (.aload_n 0, 1) := dk_42 (dk_at dksX37_bring_5 10 rfl rfl)
theorem dX37_bring_127 : decode cX37_bring 127 = .ok (.getfield 22, 3) := dk_180 0 22 (dk_at dksX37_bring_5 11 rfl rfl)
theorem dX37_bring_130 : decode cX37_bring 130 = .ok (.iload_n 2, 1) := dk_28 (dk_at dksX37_bring_5 14 rfl rfl)
theorem dX37_bring_131 : decode cX37_bring 131 = .ok (.dup2, 1) := dk_92 (dk_at dksX37_bring_5 15 rfl rfl)
theorem dX37_bring_132 : decode cX37_bring 132 = .ok (.laload, 1) := dk_47 (dk_at dksX37_bring_5 16 rfl rfl)
theorem dX37_bring_133 : decode cX37_bring 133 = .ok (.iload 10, 2) := dk_21 10 (dk_at dksX37_bring_5 17 rfl rfl)
theorem dX37_bring_135 : decode cX37_bring 135 = .ok (.i2l, 1) := dk_133 (dk_at dksX37_bring_5 19 rfl rfl)
theorem dX37_bring_136 : decode cX37_bring 136 = .ok (.ladd, 1) := dk_97 (dk_at dksX37_bring_5 20 rfl rfl)
theorem dX37_bring_137 : decode cX37_bring 137 = .ok (.lastore, 1) := dk_80 (dk_at dksX37_bring_5 21 rfl rfl)
theorem dX37_bring_138 : decode cX37_bring 138 = .ok (.aload_n 0, 1) := dk_42 (dk_at dksX37_bring_5 22 rfl rfl)
theorem dX37_bring_139 : decode cX37_bring 139 = .ok (.iload_n 2, 1) := dk_28 (dk_at dksX37_bring_5 23 rfl rfl)
theorem dX37_bring_140 : decode cX37_bring 140 = .ok (.invokevirtual 182, 3) := dk_182 0 182 (dk_at dksX37_bring_6 0 rfl rfl)
theorem dX37_bring_143 : decode cX37_bring 143 = .ok (.iload 11, 2) := dk_21 11 (dk_at dksX37_bring_6 3 rfl rfl)
theorem dX37_bring_145 : decode cX37_bring 145 = .ok (.i2l, 1) := dk_133 (dk_at dksX37_bring_6 5 rfl rfl)
theorem dX37_bring_146 : decode cX37_bring 146 = .ok (.lreturn, 1) := dk_173 (dk_at dksX37_bring_6 6 rfl rfl)
abbrev cX37_feed : ByteArray := prog_24_method_4_code
def yX37_feed : MethodName := ⟨RX37, "feed", "(I)V"⟩
def dkwX37_feed_1 : List UInt8 := [182, 0, 191, 87, 177]
abbrev dktX37_feed_1 : List UInt8 := dkwX37_feed_1 ++ []
def dkwX37_feed_0 : List UInt8 := [27, 42, 180, 0, 34, 180, 0, 186, 162, 0, 19, 42, 180, 0, 34, 3, 27, 42, 180, 0, 22, 27, 47]
abbrev dktX37_feed_0 : List UInt8 := dkwX37_feed_0 ++ dktX37_feed_1
theorem dksX37_feed_0 : cX37_feed.data.toList.drop 0 = dktX37_feed_0 := by decide +kernel
theorem dksX37_feed_1 : cX37_feed.data.toList.drop 23 = dktX37_feed_1 := dk_seg dksX37_feed_0 23 rfl rfl
theorem dX37_feed_0 : decode cX37_feed 0 = .ok (.iload_n 1, 1) := dk_27 (dk_at dksX37_feed_0 0 rfl rfl)
theorem dX37_feed_1 : decode cX37_feed 1 = .ok (.aload_n 0, 1) := dk_42 (dk_at dksX37_feed_0 1 rfl rfl)
theorem dX37_feed_2 : decode cX37_feed 2 = .ok (.getfield 34, 3) := dk_180 0 34 (dk_at dksX37_feed_0 2 rfl rfl)
theorem dX37_feed_5 : decode cX37_feed 5 = .ok (.getfield 186, 3) := dk_180 0 186 (dk_at dksX37_feed_0 5 rfl rfl)
theorem dX37_feed_8 : decode cX37_feed 8 = .ok (.if_icmp .ge 19, 3) := dk_162 0 19 (dk_at dksX37_feed_0 8 rfl rfl)
theorem dX37_feed_11 : decode cX37_feed 11 = .ok (.aload_n 0, 1) := dk_42 (dk_at dksX37_feed_0 11 rfl rfl)
theorem dX37_feed_12 : decode cX37_feed 12 = .ok (.getfield 34, 3) := dk_180 0 34 (dk_at dksX37_feed_0 12 rfl rfl)
theorem dX37_feed_15 : decode cX37_feed 15 = .ok (.iconst 0, 1) := dk_3 (dk_at dksX37_feed_0 15 rfl rfl)
theorem dX37_feed_16 : decode cX37_feed 16 = .ok (.iload_n 1, 1) := dk_27 (dk_at dksX37_feed_0 16 rfl rfl)
theorem dX37_feed_17 : decode cX37_feed 17 = .ok (.aload_n 0, 1) := dk_42 (dk_at dksX37_feed_0 17 rfl rfl)
theorem dX37_feed_18 : decode cX37_feed 18 = .ok (.getfield 22, 3) := dk_180 0 22 (dk_at dksX37_feed_0 18 rfl rfl)
theorem dX37_feed_21 : decode cX37_feed 21 = .ok (.iload_n 1, 1) := dk_27 (dk_at dksX37_feed_0 21 rfl rfl)
theorem dX37_feed_22 : decode cX37_feed 22 = .ok (.laload, 1) := dk_47 (dk_at dksX37_feed_0 22 rfl rfl)
theorem dX37_feed_23 : decode cX37_feed 23 = .ok (.invokevirtual 191, 3) := dk_182 0 191 (dk_at dksX37_feed_1 0 rfl rfl)
theorem dX37_feed_26 : decode cX37_feed 26 = .ok (.pop, 1) := dk_87 (dk_at dksX37_feed_1 3 rfl rfl)
theorem dX37_feed_27 : decode cX37_feed 27 = .ok (.return_, 1) := dk_177 (dk_at dksX37_feed_1 4 rfl rfl)
abbrev cX37_sort : ByteArray := prog_24_method_5_code
def yX37_sort : MethodName := ⟨RX37, "sort", "()J"⟩
def dkwX37_sort_7 : List UInt8 := [182, 0, 182, 132, 2, 1, 167, 255, 236, 27, 133, 173]
abbrev dktX37_sort_7 : List UInt8 := dkwX37_sort_7 ++ []
def dkwX37_sort_6 : List UInt8 := [132, 2, 1, 167, 255, 133, 3, 61, 28, 6, 162, 0, 21, 42, 180, 0, 22, 28, 9, 80, 42, 28]
abbrev dktX37_sort_6 : List UInt8 := dkwX37_sort_6 ++ dktX37_sort_7
def dkwX37_sort_5 : List UInt8 := [182, 0, 211, 87, 132, 6, 1, 167, 255, 213, 27, 21, 5, 155, 0, 7, 4, 167, 0, 4, 3, 96, 60]
abbrev dktX37_sort_5 : List UInt8 := dkwX37_sort_5 ++ dktX37_sort_6
def dkwX37_sort_4 : List UInt8 := [155, 0, 32, 42, 180, 0, 58, 21, 5, 21, 6, 42, 180, 0, 34, 28, 21, 6, 3, 182, 0, 201]
abbrev dktX37_sort_4 : List UInt8 := dkwX37_sort_4 ++ dktX37_sort_5
def dkwX37_sort_3 : List UInt8 := [182, 0, 205, 54, 5, 3, 54, 6, 21, 6, 42, 180, 0, 34, 180, 0, 186, 162, 0, 37, 21, 5]
abbrev dktX37_sort_3 : List UInt8 := dkwX37_sort_3 ++ dktX37_sort_4
def dkwX37_sort_2 : List UInt8 := [42, 180, 0, 34, 28, 21, 5, 3, 182, 0, 201, 97, 66, 132, 5, 1, 167, 255, 227, 42, 180, 0, 58, 33]
abbrev dktX37_sort_2 : List UInt8 := dkwX37_sort_2 ++ dktX37_sort_3
def dkwX37_sort_1 : List UInt8 := [180, 0, 198, 162, 0, 118, 9, 66, 3, 54, 5, 21, 5, 42, 180, 0, 34, 180, 0, 186, 162, 0, 23, 33]
abbrev dktX37_sort_1 : List UInt8 := dkwX37_sort_1 ++ dktX37_sort_2
def dkwX37_sort_0 : List UInt8 := [42, 180, 0, 34, 182, 0, 194, 153, 0, 7, 20, 0, 139, 173, 3, 60, 3, 61, 28, 42, 180, 0, 34]
abbrev dktX37_sort_0 : List UInt8 := dkwX37_sort_0 ++ dktX37_sort_1
theorem dksX37_sort_0 : cX37_sort.data.toList.drop 0 = dktX37_sort_0 := by decide +kernel
theorem dksX37_sort_1 : cX37_sort.data.toList.drop 23 = dktX37_sort_1 := dk_seg dksX37_sort_0 23 rfl rfl
theorem dksX37_sort_2 : cX37_sort.data.toList.drop 47 = dktX37_sort_2 := dk_seg dksX37_sort_1 24 rfl rfl
theorem dksX37_sort_3 : cX37_sort.data.toList.drop 71 = dktX37_sort_3 := dk_seg dksX37_sort_2 24 rfl rfl
theorem dksX37_sort_4 : cX37_sort.data.toList.drop 93 = dktX37_sort_4 := dk_seg dksX37_sort_3 22 rfl rfl
theorem dksX37_sort_5 : cX37_sort.data.toList.drop 115 = dktX37_sort_5 := dk_seg dksX37_sort_4 22 rfl rfl
theorem dksX37_sort_6 : cX37_sort.data.toList.drop 138 = dktX37_sort_6 := dk_seg dksX37_sort_5 23 rfl rfl
theorem dksX37_sort_7 : cX37_sort.data.toList.drop 160 = dktX37_sort_7 := dk_seg dksX37_sort_6 22 rfl rfl
theorem dX37_sort_0 : decode cX37_sort 0 = .ok (.aload_n 0, 1) := dk_42 (dk_at dksX37_sort_0 0 rfl rfl)
theorem dX37_sort_1 : decode cX37_sort 1 = .ok (.getfield 34, 3) := dk_180 0 34 (dk_at dksX37_sort_0 1 rfl rfl)
theorem dX37_sort_4 : decode cX37_sort 4 = .ok (.invokevirtual 194, 3) := dk_182 0 194 (dk_at dksX37_sort_0 4 rfl rfl)
theorem dX37_sort_7 : decode cX37_sort 7 = .ok (.ifCond .eq 7, 3) := dk_153 0 7 (dk_at dksX37_sort_0 7 rfl rfl)
theorem dX37_sort_10 : decode cX37_sort 10 = .ok (.ldc2_w 139, 3) := dk_20 0 139 (dk_at dksX37_sort_0 10 rfl rfl)
theorem dX37_sort_13 : decode cX37_sort 13 = .ok (.lreturn, 1) := dk_173 (dk_at dksX37_sort_0 13 rfl rfl)
theorem dX37_sort_14 : decode cX37_sort 14 = .ok (.iconst 0, 1) := dk_3 (dk_at dksX37_sort_0 14 rfl rfl)
theorem dX37_sort_15 : decode cX37_sort 15 = .ok (.istore_n 1, 1) := dk_60 (dk_at dksX37_sort_0 15 rfl rfl)
theorem dX37_sort_16 : decode cX37_sort 16 = .ok (.iconst 0, 1) := dk_3 (dk_at dksX37_sort_0 16 rfl rfl)
theorem dX37_sort_17 : decode cX37_sort 17 = .ok (.istore_n 2, 1) := dk_61 (dk_at dksX37_sort_0 17 rfl rfl)
theorem dX37_sort_18 : decode cX37_sort 18 = .ok (.iload_n 2, 1) := dk_28 (dk_at dksX37_sort_0 18 rfl rfl)
theorem dX37_sort_19 : decode cX37_sort 19 = .ok (.aload_n 0, 1) := dk_42 (dk_at dksX37_sort_0 19 rfl rfl)
theorem dX37_sort_20 : decode cX37_sort 20 = .ok (.getfield 34, 3) := dk_180 0 34 (dk_at dksX37_sort_0 20 rfl rfl)
theorem dX37_sort_23 : decode cX37_sort 23 = .ok (.getfield 198, 3) := dk_180 0 198 (dk_at dksX37_sort_1 0 rfl rfl)
theorem dX37_sort_26 : decode cX37_sort 26 = .ok (.if_icmp .ge 118, 3) := dk_162 0 118 (dk_at dksX37_sort_1 3 rfl rfl)
theorem dX37_sort_29 : decode cX37_sort 29 = .ok (.lconst 0, 1) := dk_9 (dk_at dksX37_sort_1 6 rfl rfl)
theorem dX37_sort_30 : decode cX37_sort 30 = .ok (.lstore_n 3, 1) := dk_66 (dk_at dksX37_sort_1 7 rfl rfl)
theorem dX37_sort_31 : decode cX37_sort 31 = .ok (.iconst 0, 1) := dk_3 (dk_at dksX37_sort_1 8 rfl rfl)
theorem dX37_sort_32 : decode cX37_sort 32 = .ok (.istore 5, 2) := dk_54 5 (dk_at dksX37_sort_1 9 rfl rfl)
theorem dX37_sort_34 : decode cX37_sort 34 = .ok (.iload 5, 2) := dk_21 5 (dk_at dksX37_sort_1 11 rfl rfl)
theorem dX37_sort_36 : decode cX37_sort 36 = .ok (.aload_n 0, 1) := dk_42 (dk_at dksX37_sort_1 13 rfl rfl)
theorem dX37_sort_37 : decode cX37_sort 37 = .ok (.getfield 34, 3) := dk_180 0 34 (dk_at dksX37_sort_1 14 rfl rfl)
theorem dX37_sort_40 : decode cX37_sort 40 = .ok (.getfield 186, 3) := dk_180 0 186 (dk_at dksX37_sort_1 17 rfl rfl)
theorem dX37_sort_43 : decode cX37_sort 43 = .ok (.if_icmp .ge 23, 3) := dk_162 0 23 (dk_at dksX37_sort_1 20 rfl rfl)
theorem dX37_sort_46 : decode cX37_sort 46 = .ok (.lload_n 3, 1) := dk_33 (dk_at dksX37_sort_1 23 rfl rfl)
theorem dX37_sort_47 : decode cX37_sort 47 = .ok (.aload_n 0, 1) := dk_42 (dk_at dksX37_sort_2 0 rfl rfl)
theorem dX37_sort_48 : decode cX37_sort 48 = .ok (.getfield 34, 3) := dk_180 0 34 (dk_at dksX37_sort_2 1 rfl rfl)
theorem dX37_sort_51 : decode cX37_sort 51 = .ok (.iload_n 2, 1) := dk_28 (dk_at dksX37_sort_2 4 rfl rfl)
theorem dX37_sort_52 : decode cX37_sort 52 = .ok (.iload 5, 2) := dk_21 5 (dk_at dksX37_sort_2 5 rfl rfl)
theorem dX37_sort_54 : decode cX37_sort 54 = .ok (.iconst 0, 1) := dk_3 (dk_at dksX37_sort_2 7 rfl rfl)
theorem dX37_sort_55 : decode cX37_sort 55 = .ok (.invokevirtual 201, 3) := dk_182 0 201 (dk_at dksX37_sort_2 8 rfl rfl)
theorem dX37_sort_58 : decode cX37_sort 58 = .ok (.ladd, 1) := dk_97 (dk_at dksX37_sort_2 11 rfl rfl)
theorem dX37_sort_59 : decode cX37_sort 59 = .ok (.lstore_n 3, 1) := dk_66 (dk_at dksX37_sort_2 12 rfl rfl)
theorem dX37_sort_60 : decode cX37_sort 60 = .ok (.iinc 5 1, 3) := dk_132 5 1 (dk_at dksX37_sort_2 13 rfl rfl)
theorem dX37_sort_63 : decode cX37_sort 63 = .ok (.goto (-29), 3) := dk_167 255 227 (dk_at dksX37_sort_2 16 rfl rfl)
theorem dX37_sort_66 : decode cX37_sort 66 = .ok (.aload_n 0, 1) := dk_42 (dk_at dksX37_sort_2 19 rfl rfl)
theorem dX37_sort_67 : decode cX37_sort 67 = .ok (.getfield 58, 3) := dk_180 0 58 (dk_at dksX37_sort_2 20 rfl rfl)
theorem dX37_sort_70 : decode cX37_sort 70 = .ok (.lload_n 3, 1) := dk_33 (dk_at dksX37_sort_2 23 rfl rfl)
theorem dX37_sort_71 : decode cX37_sort 71 = .ok (.invokevirtual 205, 3) := dk_182 0 205 (dk_at dksX37_sort_3 0 rfl rfl)
theorem dX37_sort_74 : decode cX37_sort 74 = .ok (.istore 5, 2) := dk_54 5 (dk_at dksX37_sort_3 3 rfl rfl)
theorem dX37_sort_76 : decode cX37_sort 76 = .ok (.iconst 0, 1) := dk_3 (dk_at dksX37_sort_3 5 rfl rfl)
theorem dX37_sort_77 : decode cX37_sort 77 = .ok (.istore 6, 2) := dk_54 6 (dk_at dksX37_sort_3 6 rfl rfl)
theorem dX37_sort_79 : decode cX37_sort 79 = .ok (.iload 6, 2) := dk_21 6 (dk_at dksX37_sort_3 8 rfl rfl)
theorem dX37_sort_81 : decode cX37_sort 81 = .ok (.aload_n 0, 1) := dk_42 (dk_at dksX37_sort_3 10 rfl rfl)
theorem dX37_sort_82 : decode cX37_sort 82 = .ok (.getfield 34, 3) := dk_180 0 34 (dk_at dksX37_sort_3 11 rfl rfl)
theorem dX37_sort_85 : decode cX37_sort 85 = .ok (.getfield 186, 3) := dk_180 0 186 (dk_at dksX37_sort_3 14 rfl rfl)
theorem dX37_sort_88 : decode cX37_sort 88 = .ok (.if_icmp .ge 37, 3) := dk_162 0 37 (dk_at dksX37_sort_3 17 rfl rfl)
theorem dX37_sort_91 : decode cX37_sort 91 = .ok (.iload 5, 2) := dk_21 5 (dk_at dksX37_sort_3 20 rfl rfl)
theorem dX37_sort_93 : decode cX37_sort 93 = .ok (.ifCond .lt 32, 3) := dk_155 0 32 (dk_at dksX37_sort_4 0 rfl rfl)
theorem dX37_sort_96 : decode cX37_sort 96 = .ok (.aload_n 0, 1) := dk_42 (dk_at dksX37_sort_4 3 rfl rfl)
theorem dX37_sort_97 : decode cX37_sort 97 = .ok (.getfield 58, 3) := dk_180 0 58 (dk_at dksX37_sort_4 4 rfl rfl)
theorem dX37_sort_100 : decode cX37_sort 100 = .ok (.iload 5, 2) := dk_21 5 (dk_at dksX37_sort_4 7 rfl rfl)
theorem dX37_sort_102 : decode cX37_sort 102 = .ok (.iload 6, 2) := dk_21 6 (dk_at dksX37_sort_4 9 rfl rfl)
theorem dX37_sort_104 : decode cX37_sort 104 = .ok (.aload_n 0, 1) := dk_42 (dk_at dksX37_sort_4 11 rfl rfl)
theorem dX37_sort_105 : decode cX37_sort 105 = .ok (.getfield 34, 3) := dk_180 0 34 (dk_at dksX37_sort_4 12 rfl rfl)
theorem dX37_sort_108 : decode cX37_sort 108 = .ok (.iload_n 2, 1) := dk_28 (dk_at dksX37_sort_4 15 rfl rfl)
theorem dX37_sort_109 : decode cX37_sort 109 = .ok (.iload 6, 2) := dk_21 6 (dk_at dksX37_sort_4 16 rfl rfl)
theorem dX37_sort_111 : decode cX37_sort 111 = .ok (.iconst 0, 1) := dk_3 (dk_at dksX37_sort_4 18 rfl rfl)
theorem dX37_sort_112 : decode cX37_sort 112 = .ok (.invokevirtual 201, 3) := dk_182 0 201 (dk_at dksX37_sort_4 19 rfl rfl)
theorem dX37_sort_115 : decode cX37_sort 115 = .ok (.invokevirtual 211, 3) := dk_182 0 211 (dk_at dksX37_sort_5 0 rfl rfl)
theorem dX37_sort_118 : decode cX37_sort 118 = .ok (.pop, 1) := dk_87 (dk_at dksX37_sort_5 3 rfl rfl)
theorem dX37_sort_119 : decode cX37_sort 119 = .ok (.iinc 6 1, 3) := dk_132 6 1 (dk_at dksX37_sort_5 4 rfl rfl)
theorem dX37_sort_122 : decode cX37_sort 122 = .ok (.goto (-43), 3) := dk_167 255 213 (dk_at dksX37_sort_5 7 rfl rfl)
theorem dX37_sort_125 : decode cX37_sort 125 = .ok (.iload_n 1, 1) := dk_27 (dk_at dksX37_sort_5 10 rfl rfl)
theorem dX37_sort_126 : decode cX37_sort 126 = .ok (.iload 5, 2) := dk_21 5 (dk_at dksX37_sort_5 11 rfl rfl)
theorem dX37_sort_128 : decode cX37_sort 128 = .ok (.ifCond .lt 7, 3) := dk_155 0 7 (dk_at dksX37_sort_5 13 rfl rfl)
theorem dX37_sort_131 : decode cX37_sort 131 = .ok (.iconst 1, 1) := dk_4 (dk_at dksX37_sort_5 16 rfl rfl)
theorem dX37_sort_132 : decode cX37_sort 132 = .ok (.goto 4, 3) := dk_167 0 4 (dk_at dksX37_sort_5 17 rfl rfl)
theorem dX37_sort_135 : decode cX37_sort 135 = .ok (.iconst 0, 1) := dk_3 (dk_at dksX37_sort_5 20 rfl rfl)
theorem dX37_sort_136 : decode cX37_sort 136 = .ok (.iadd, 1) := dk_96 (dk_at dksX37_sort_5 21 rfl rfl)
theorem dX37_sort_137 : decode cX37_sort 137 = .ok (.istore_n 1, 1) := dk_60 (dk_at dksX37_sort_5 22 rfl rfl)
theorem dX37_sort_138 : decode cX37_sort 138 = .ok (.iinc 2 1, 3) := dk_132 2 1 (dk_at dksX37_sort_6 0 rfl rfl)
theorem dX37_sort_141 : decode cX37_sort 141 = .ok (.goto (-123), 3) := dk_167 255 133 (dk_at dksX37_sort_6 3 rfl rfl)
theorem dX37_sort_144 : decode cX37_sort 144 = .ok (.iconst 0, 1) := dk_3 (dk_at dksX37_sort_6 6 rfl rfl)
theorem dX37_sort_145 : decode cX37_sort 145 = .ok (.istore_n 2, 1) := dk_61 (dk_at dksX37_sort_6 7 rfl rfl)
theorem dX37_sort_146 : decode cX37_sort 146 = .ok (.iload_n 2, 1) := dk_28 (dk_at dksX37_sort_6 8 rfl rfl)
theorem dX37_sort_147 : decode cX37_sort 147 = .ok (.iconst 3, 1) := dk_6 (dk_at dksX37_sort_6 9 rfl rfl)
theorem dX37_sort_148 : decode cX37_sort 148 = .ok (.if_icmp .ge 21, 3) := dk_162 0 21 (dk_at dksX37_sort_6 10 rfl rfl)
theorem dX37_sort_151 : decode cX37_sort 151 = .ok (.aload_n 0, 1) := dk_42 (dk_at dksX37_sort_6 13 rfl rfl)
theorem dX37_sort_152 : decode cX37_sort 152 = .ok (.getfield 22, 3) := dk_180 0 22 (dk_at dksX37_sort_6 14 rfl rfl)
theorem dX37_sort_155 : decode cX37_sort 155 = .ok (.iload_n 2, 1) := dk_28 (dk_at dksX37_sort_6 17 rfl rfl)
theorem dX37_sort_156 : decode cX37_sort 156 = .ok (.lconst 0, 1) := dk_9 (dk_at dksX37_sort_6 18 rfl rfl)
theorem dX37_sort_157 : decode cX37_sort 157 = .ok (.lastore, 1) := dk_80 (dk_at dksX37_sort_6 19 rfl rfl)
theorem dX37_sort_158 : decode cX37_sort 158 = .ok (.aload_n 0, 1) := dk_42 (dk_at dksX37_sort_6 20 rfl rfl)
theorem dX37_sort_159 : decode cX37_sort 159 = .ok (.iload_n 2, 1) := dk_28 (dk_at dksX37_sort_6 21 rfl rfl)
theorem dX37_sort_160 : decode cX37_sort 160 = .ok (.invokevirtual 182, 3) := dk_182 0 182 (dk_at dksX37_sort_7 0 rfl rfl)
theorem dX37_sort_163 : decode cX37_sort 163 = .ok (.iinc 2 1, 3) := dk_132 2 1 (dk_at dksX37_sort_7 3 rfl rfl)
theorem dX37_sort_166 : decode cX37_sort 166 = .ok (.goto (-20), 3) := dk_167 255 236 (dk_at dksX37_sort_7 6 rfl rfl)
theorem dX37_sort_169 : decode cX37_sort 169 = .ok (.iload_n 1, 1) := dk_27 (dk_at dksX37_sort_7 9 rfl rfl)
theorem dX37_sort_170 : decode cX37_sort 170 = .ok (.i2l, 1) := dk_133 (dk_at dksX37_sort_7 10 rfl rfl)
theorem dX37_sort_171 : decode cX37_sort 171 = .ok (.lreturn, 1) := dk_173 (dk_at dksX37_sort_7 11 rfl rfl)
abbrev cX37_sell : ByteArray := prog_24_method_6_code
def yX37_sell : MethodName := ⟨RX37, "sell", "(I)J"⟩
def dkwX37_sell_2 : List UInt8 := [3, 32, 182, 0, 220, 32, 173]
abbrev dktX37_sell_2 : List UInt8 := dkwX37_sell_2 ++ []
def dkwX37_sell_1 : List UInt8 := [160, 0, 7, 20, 0, 139, 173, 42, 89, 180, 0, 217, 4, 27, 120, 128, 181, 0, 217, 42, 180, 0, 16, 4]
abbrev dktX37_sell_1 : List UInt8 := dkwX37_sell_1 ++ dktX37_sell_2
def dkwX37_sell_0 : List UInt8 := [42, 180, 0, 58, 27, 182, 0, 214, 65, 32, 9, 148, 155, 0, 15, 42, 180, 0, 217, 27, 122, 4, 126, 4]
abbrev dktX37_sell_0 : List UInt8 := dkwX37_sell_0 ++ dktX37_sell_1
theorem dksX37_sell_0 : cX37_sell.data.toList.drop 0 = dktX37_sell_0 := by decide +kernel
theorem dksX37_sell_1 : cX37_sell.data.toList.drop 24 = dktX37_sell_1 := dk_seg dksX37_sell_0 24 rfl rfl
theorem dksX37_sell_2 : cX37_sell.data.toList.drop 48 = dktX37_sell_2 := dk_seg dksX37_sell_1 24 rfl rfl
theorem dX37_sell_0 : decode cX37_sell 0 = .ok (.aload_n 0, 1) := dk_42 (dk_at dksX37_sell_0 0 rfl rfl)
theorem dX37_sell_1 : decode cX37_sell 1 = .ok (.getfield 58, 3) := dk_180 0 58 (dk_at dksX37_sell_0 1 rfl rfl)
theorem dX37_sell_4 : decode cX37_sell 4 = .ok (.iload_n 1, 1) := dk_27 (dk_at dksX37_sell_0 4 rfl rfl)
theorem dX37_sell_5 : decode cX37_sell 5 = .ok (.invokevirtual 214, 3) := dk_182 0 214 (dk_at dksX37_sell_0 5 rfl rfl)
theorem dX37_sell_8 : decode cX37_sell 8 = .ok (.lstore_n 2, 1) := dk_65 (dk_at dksX37_sell_0 8 rfl rfl)
theorem dX37_sell_9 : decode cX37_sell 9 = .ok (.lload_n 2, 1) := dk_32 (dk_at dksX37_sell_0 9 rfl rfl)
theorem dX37_sell_10 : decode cX37_sell 10 = .ok (.lconst 0, 1) := dk_9 (dk_at dksX37_sell_0 10 rfl rfl)
theorem dX37_sell_11 : decode cX37_sell 11 = .ok (.lcmp, 1) := dk_148 (dk_at dksX37_sell_0 11 rfl rfl)
theorem dX37_sell_12 : decode cX37_sell 12 = .ok (.ifCond .lt 15, 3) := dk_155 0 15 (dk_at dksX37_sell_0 12 rfl rfl)
theorem dX37_sell_15 : decode cX37_sell 15 = .ok (.aload_n 0, 1) := dk_42 (dk_at dksX37_sell_0 15 rfl rfl)
theorem dX37_sell_16 : decode cX37_sell 16 = .ok (.getfield 217, 3) := dk_180 0 217 (dk_at dksX37_sell_0 16 rfl rfl)
theorem dX37_sell_19 : decode cX37_sell 19 = .ok (.iload_n 1, 1) := dk_27 (dk_at dksX37_sell_0 19 rfl rfl)
theorem dX37_sell_20 : decode cX37_sell 20 = .ok (.ishr, 1) := dk_122 (dk_at dksX37_sell_0 20 rfl rfl)
theorem dX37_sell_21 : decode cX37_sell 21 = .ok (.iconst 1, 1) := dk_4 (dk_at dksX37_sell_0 21 rfl rfl)
theorem dX37_sell_22 : decode cX37_sell 22 = .ok (.iand, 1) := dk_126 (dk_at dksX37_sell_0 22 rfl rfl)
theorem dX37_sell_23 : decode cX37_sell 23 = .ok (.iconst 1, 1) := dk_4 (dk_at dksX37_sell_0 23 rfl rfl)
theorem dX37_sell_24 : decode cX37_sell 24 = .ok (.if_icmp .ne 7, 3) := dk_160 0 7 (dk_at dksX37_sell_1 0 rfl rfl)
theorem dX37_sell_27 : decode cX37_sell 27 = .ok (.ldc2_w 139, 3) := dk_20 0 139 (dk_at dksX37_sell_1 3 rfl rfl)
theorem dX37_sell_30 : decode cX37_sell 30 = .ok (.lreturn, 1) := dk_173 (dk_at dksX37_sell_1 6 rfl rfl)
theorem dX37_sell_31 : decode cX37_sell 31 = .ok (.aload_n 0, 1) := dk_42 (dk_at dksX37_sell_1 7 rfl rfl)
theorem dX37_sell_32 : decode cX37_sell 32 = .ok (.dup, 1) := dk_89 (dk_at dksX37_sell_1 8 rfl rfl)
theorem dX37_sell_33 : decode cX37_sell 33 = .ok (.getfield 217, 3) := dk_180 0 217 (dk_at dksX37_sell_1 9 rfl rfl)
theorem dX37_sell_36 : decode cX37_sell 36 = .ok (.iconst 1, 1) := dk_4 (dk_at dksX37_sell_1 12 rfl rfl)
theorem dX37_sell_37 : decode cX37_sell 37 = .ok (.iload_n 1, 1) := dk_27 (dk_at dksX37_sell_1 13 rfl rfl)
theorem dX37_sell_38 : decode cX37_sell 38 = .ok (.ishl, 1) := dk_120 (dk_at dksX37_sell_1 14 rfl rfl)
theorem dX37_sell_39 : decode cX37_sell 39 = .ok (.ior, 1) := dk_128 (dk_at dksX37_sell_1 15 rfl rfl)
theorem dX37_sell_40 : decode cX37_sell 40 = .ok (.putfield 217, 3) := dk_181 0 217 (dk_at dksX37_sell_1 16 rfl rfl)
theorem dX37_sell_43 : decode cX37_sell 43 = .ok (.aload_n 0, 1) := dk_42 (dk_at dksX37_sell_1 19 rfl rfl)
theorem dX37_sell_44 : decode cX37_sell 44 = .ok (.getfield 16, 3) := dk_180 0 16 (dk_at dksX37_sell_1 20 rfl rfl)
theorem dX37_sell_47 : decode cX37_sell 47 = .ok (.iconst 1, 1) := dk_4 (dk_at dksX37_sell_1 23 rfl rfl)
theorem dX37_sell_48 : decode cX37_sell 48 = .ok (.iconst 0, 1) := dk_3 (dk_at dksX37_sell_2 0 rfl rfl)
theorem dX37_sell_49 : decode cX37_sell 49 = .ok (.lload_n 2, 1) := dk_32 (dk_at dksX37_sell_2 1 rfl rfl)
theorem dX37_sell_50 : decode cX37_sell 50 = .ok (.invokevirtual 220, 3) := dk_182 0 220 (dk_at dksX37_sell_2 2 rfl rfl)
theorem dX37_sell_53 : decode cX37_sell 53 = .ok (.lload_n 2, 1) := dk_32 (dk_at dksX37_sell_2 5 rfl rfl)
theorem dX37_sell_54 : decode cX37_sell 54 = .ok (.lreturn, 1) := dk_173 (dk_at dksX37_sell_2 6 rfl rfl)
abbrev cX37_classOf : ByteArray := prog_24_method_7_code
def yX37_classOf : MethodName := ⟨RX37, "classOf", "(IJ)J"⟩
def dkwX37_classOf_4 : List UInt8 := [32, 182, 0, 235, 87, 42, 180, 0, 38, 182, 0, 238, 133, 173]
abbrev dktX37_classOf_4 : List UInt8 := dkwX37_classOf_4 ++ []
def dkwX37_classOf_3 : List UInt8 := [22, 5, 22, 7, 97, 10, 101, 22, 7, 109, 182, 0, 229, 87, 132, 4, 1, 167, 255, 192, 42, 180, 0, 38]
abbrev dktX37_classOf_3 : List UInt8 := dkwX37_classOf_3 ++ dktX37_classOf_4
def dkwX37_classOf_2 : List UInt8 := [180, 0, 58, 27, 21, 4, 4, 182, 0, 224, 55, 7, 42, 180, 0, 38, 21, 4, 22, 5, 22, 7, 109]
abbrev dktX37_classOf_2 : List UInt8 := dkwX37_classOf_2 ++ dktX37_classOf_3
def dkwX37_classOf_1 : List UInt8 := [6, 162, 0, 64, 42, 180, 0, 58, 27, 21, 4, 3, 182, 0, 224, 20, 0, 227, 105, 55, 5, 42]
abbrev dktX37_classOf_1 : List UInt8 := dkwX37_classOf_1 ++ dktX37_classOf_2
def dkwX37_classOf_0 : List UInt8 := [42, 180, 0, 58, 27, 3, 4, 182, 0, 224, 9, 148, 156, 0, 7, 20, 0, 139, 173, 3, 54, 4, 21, 4]
abbrev dktX37_classOf_0 : List UInt8 := dkwX37_classOf_0 ++ dktX37_classOf_1
theorem dksX37_classOf_0 : cX37_classOf.data.toList.drop 0 = dktX37_classOf_0 := by decide +kernel
theorem dksX37_classOf_1 : cX37_classOf.data.toList.drop 24 = dktX37_classOf_1 := dk_seg dksX37_classOf_0 24 rfl rfl
theorem dksX37_classOf_2 : cX37_classOf.data.toList.drop 46 = dktX37_classOf_2 := dk_seg dksX37_classOf_1 22 rfl rfl
theorem dksX37_classOf_3 : cX37_classOf.data.toList.drop 69 = dktX37_classOf_3 := dk_seg dksX37_classOf_2 23 rfl rfl
theorem dksX37_classOf_4 : cX37_classOf.data.toList.drop 93 = dktX37_classOf_4 := dk_seg dksX37_classOf_3 24 rfl rfl
theorem dX37_classOf_0 : decode cX37_classOf 0 = .ok (.aload_n 0, 1) := dk_42 (dk_at dksX37_classOf_0 0 rfl rfl)
theorem dX37_classOf_1 : decode cX37_classOf 1 = .ok (.getfield 58, 3) := dk_180 0 58 (dk_at dksX37_classOf_0 1 rfl rfl)
theorem dX37_classOf_4 : decode cX37_classOf 4 = .ok (.iload_n 1, 1) := dk_27 (dk_at dksX37_classOf_0 4 rfl rfl)
theorem dX37_classOf_5 : decode cX37_classOf 5 = .ok (.iconst 0, 1) := dk_3 (dk_at dksX37_classOf_0 5 rfl rfl)
theorem dX37_classOf_6 : decode cX37_classOf 6 = .ok (.iconst 1, 1) := dk_4 (dk_at dksX37_classOf_0 6 rfl rfl)
theorem dX37_classOf_7 : decode cX37_classOf 7 = .ok (.invokevirtual 224, 3) := dk_182 0 224 (dk_at dksX37_classOf_0 7 rfl rfl)
theorem dX37_classOf_10 : decode cX37_classOf 10 = .ok (.lconst 0, 1) := dk_9 (dk_at dksX37_classOf_0 10 rfl rfl)
theorem dX37_classOf_11 : decode cX37_classOf 11 = .ok (.lcmp, 1) := dk_148 (dk_at dksX37_classOf_0 11 rfl rfl)
theorem dX37_classOf_12 : decode cX37_classOf 12 = .ok (.ifCond .ge 7, 3) := dk_156 0 7 (dk_at dksX37_classOf_0 12 rfl rfl)
theorem dX37_classOf_15 : decode cX37_classOf 15 = .ok (.ldc2_w 139, 3) := dk_20 0 139 (dk_at dksX37_classOf_0 15 rfl rfl)
theorem dX37_classOf_18 : decode cX37_classOf 18 = .ok (.lreturn, 1) := dk_173 (dk_at dksX37_classOf_0 18 rfl rfl)
theorem dX37_classOf_19 : decode cX37_classOf 19 = .ok (.iconst 0, 1) := dk_3 (dk_at dksX37_classOf_0 19 rfl rfl)
theorem dX37_classOf_20 : decode cX37_classOf 20 = .ok (.istore 4, 2) := dk_54 4 (dk_at dksX37_classOf_0 20 rfl rfl)
theorem dX37_classOf_22 : decode cX37_classOf 22 = .ok (.iload 4, 2) := dk_21 4 (dk_at dksX37_classOf_0 22 rfl rfl)
theorem dX37_classOf_24 : decode cX37_classOf 24 = .ok (.iconst 3, 1) := dk_6 (dk_at dksX37_classOf_1 0 rfl rfl)
theorem dX37_classOf_25 : decode cX37_classOf 25 = .ok (.if_icmp .ge 64, 3) := dk_162 0 64 (dk_at dksX37_classOf_1 1 rfl rfl)
theorem dX37_classOf_28 : decode cX37_classOf 28 = .ok (.aload_n 0, 1) := dk_42 (dk_at dksX37_classOf_1 4 rfl rfl)
theorem dX37_classOf_29 : decode cX37_classOf 29 = .ok (.getfield 58, 3) := dk_180 0 58 (dk_at dksX37_classOf_1 5 rfl rfl)
theorem dX37_classOf_32 : decode cX37_classOf 32 = .ok (.iload_n 1, 1) := dk_27 (dk_at dksX37_classOf_1 8 rfl rfl)
theorem dX37_classOf_33 : decode cX37_classOf 33 = .ok (.iload 4, 2) := dk_21 4 (dk_at dksX37_classOf_1 9 rfl rfl)
theorem dX37_classOf_35 : decode cX37_classOf 35 = .ok (.iconst 0, 1) := dk_3 (dk_at dksX37_classOf_1 11 rfl rfl)
theorem dX37_classOf_36 : decode cX37_classOf 36 = .ok (.invokevirtual 224, 3) := dk_182 0 224 (dk_at dksX37_classOf_1 12 rfl rfl)
theorem dX37_classOf_39 : decode cX37_classOf 39 = .ok (.ldc2_w 227, 3) := dk_20 0 227 (dk_at dksX37_classOf_1 15 rfl rfl)
theorem dX37_classOf_42 : decode cX37_classOf 42 = .ok (.lmul, 1) := dk_105 (dk_at dksX37_classOf_1 18 rfl rfl)
theorem dX37_classOf_43 : decode cX37_classOf 43 = .ok (.lstore 5, 2) := dk_55 5 (dk_at dksX37_classOf_1 19 rfl rfl)
theorem dX37_classOf_45 : decode cX37_classOf 45 = .ok (.aload_n 0, 1) := dk_42 (dk_at dksX37_classOf_1 21 rfl rfl)
theorem dX37_classOf_46 : decode cX37_classOf 46 = .ok (.getfield 58, 3) := dk_180 0 58 (dk_at dksX37_classOf_2 0 rfl rfl)
theorem dX37_classOf_49 : decode cX37_classOf 49 = .ok (.iload_n 1, 1) := dk_27 (dk_at dksX37_classOf_2 3 rfl rfl)
theorem dX37_classOf_50 : decode cX37_classOf 50 = .ok (.iload 4, 2) := dk_21 4 (dk_at dksX37_classOf_2 4 rfl rfl)
theorem dX37_classOf_52 : decode cX37_classOf 52 = .ok (.iconst 1, 1) := dk_4 (dk_at dksX37_classOf_2 6 rfl rfl)
theorem dX37_classOf_53 : decode cX37_classOf 53 = .ok (.invokevirtual 224, 3) := dk_182 0 224 (dk_at dksX37_classOf_2 7 rfl rfl)
theorem dX37_classOf_56 : decode cX37_classOf 56 = .ok (.lstore 7, 2) := dk_55 7 (dk_at dksX37_classOf_2 10 rfl rfl)
theorem dX37_classOf_58 : decode cX37_classOf 58 = .ok (.aload_n 0, 1) := dk_42 (dk_at dksX37_classOf_2 12 rfl rfl)
theorem dX37_classOf_59 : decode cX37_classOf 59 = .ok (.getfield 38, 3) := dk_180 0 38 (dk_at dksX37_classOf_2 13 rfl rfl)
theorem dX37_classOf_62 : decode cX37_classOf 62 = .ok (.iload 4, 2) := dk_21 4 (dk_at dksX37_classOf_2 16 rfl rfl)
theorem dX37_classOf_64 : decode cX37_classOf 64 = .ok (.lload 5, 2) := dk_22 5 (dk_at dksX37_classOf_2 18 rfl rfl)
theorem dX37_classOf_66 : decode cX37_classOf 66 = .ok (.lload 7, 2) := dk_22 7 (dk_at dksX37_classOf_2 20 rfl rfl)
theorem dX37_classOf_68 : decode cX37_classOf 68 = .ok (.ldiv, 1) := dk_109 (dk_at dksX37_classOf_2 22 rfl rfl)
theorem dX37_classOf_69 : decode cX37_classOf 69 = .ok (.lload 5, 2) := dk_22 5 (dk_at dksX37_classOf_3 0 rfl rfl)
theorem dX37_classOf_71 : decode cX37_classOf 71 = .ok (.lload 7, 2) := dk_22 7 (dk_at dksX37_classOf_3 2 rfl rfl)
theorem dX37_classOf_73 : decode cX37_classOf 73 = .ok (.ladd, 1) := dk_97 (dk_at dksX37_classOf_3 4 rfl rfl)
theorem dX37_classOf_74 : decode cX37_classOf 74 = .ok (.lconst 1, 1) := dk_10 (dk_at dksX37_classOf_3 5 rfl rfl)
theorem dX37_classOf_75 : decode cX37_classOf 75 = .ok (.lsub, 1) := dk_101 (dk_at dksX37_classOf_3 6 rfl rfl)
theorem dX37_classOf_76 : decode cX37_classOf 76 = .ok (.lload 7, 2) := dk_22 7 (dk_at dksX37_classOf_3 7 rfl rfl)
theorem dX37_classOf_78 : decode cX37_classOf 78 = .ok (.ldiv, 1) := dk_109 (dk_at dksX37_classOf_3 9 rfl rfl)
theorem dX37_classOf_79 : decode cX37_classOf 79 = .ok (.invokevirtual 229, 3) := dk_182 0 229 (dk_at dksX37_classOf_3 10 rfl rfl)
theorem dX37_classOf_82 : decode cX37_classOf 82 = .ok (.pop, 1) := dk_87 (dk_at dksX37_classOf_3 13 rfl rfl)
theorem dX37_classOf_83 : decode cX37_classOf 83 = .ok (.iinc 4 1, 3) := dk_132 4 1 (dk_at dksX37_classOf_3 14 rfl rfl)
theorem dX37_classOf_86 : decode cX37_classOf 86 = .ok (.goto (-64), 3) := dk_167 255 192 (dk_at dksX37_classOf_3 17 rfl rfl)
theorem dX37_classOf_89 : decode cX37_classOf 89 = .ok (.aload_n 0, 1) := dk_42 (dk_at dksX37_classOf_3 20 rfl rfl)
theorem dX37_classOf_90 : decode cX37_classOf 90 = .ok (.getfield 38, 3) := dk_180 0 38 (dk_at dksX37_classOf_3 21 rfl rfl)
theorem dX37_classOf_93 : decode cX37_classOf 93 = .ok (.lload_n 2, 1) := dk_32 (dk_at dksX37_classOf_4 0 rfl rfl)
theorem dX37_classOf_94 : decode cX37_classOf 94 = .ok (.invokevirtual 235, 3) := dk_182 0 235 (dk_at dksX37_classOf_4 1 rfl rfl)
theorem dX37_classOf_97 : decode cX37_classOf 97 = .ok (.pop, 1) := dk_87 (dk_at dksX37_classOf_4 4 rfl rfl)
theorem dX37_classOf_98 : decode cX37_classOf 98 = .ok (.aload_n 0, 1) := dk_42 (dk_at dksX37_classOf_4 5 rfl rfl)
theorem dX37_classOf_99 : decode cX37_classOf 99 = .ok (.getfield 38, 3) := dk_180 0 38 (dk_at dksX37_classOf_4 6 rfl rfl)
theorem dX37_classOf_102 : decode cX37_classOf 102 = .ok (.invokevirtual 238, 3) := dk_182 0 238 (dk_at dksX37_classOf_4 9 rfl rfl)
theorem dX37_classOf_105 : decode cX37_classOf 105 = .ok (.i2l, 1) := dk_133 (dk_at dksX37_classOf_4 12 rfl rfl)
theorem dX37_classOf_106 : decode cX37_classOf 106 = .ok (.lreturn, 1) := dk_173 (dk_at dksX37_classOf_4 13 rfl rfl)
abbrev cX37_keep : ByteArray := prog_24_method_8_code
def yX37_keep : MethodName := ⟨RX37, "keep", "(II)J"⟩
def dkwX37_keep_4 : List UInt8 := [173]
abbrev dktX37_keep_4 : List UInt8 := dkwX37_keep_4 ++ []
def dkwX37_keep_3 : List UInt8 := [54, 6, 21, 6, 156, 0, 9, 20, 0, 139, 167, 0, 14, 42, 180, 0, 46, 21, 6, 28, 182, 1, 12, 133]
abbrev dktX37_keep_3 : List UInt8 := dkwX37_keep_3 ++ dktX37_keep_4
def dkwX37_keep_2 : List UInt8 := [22, 4, 20, 0, 254, 184, 1, 0, 22, 4, 20, 0, 227, 109, 20, 1, 6, 184, 1, 0, 182, 1, 8]
abbrev dktX37_keep_2 : List UInt8 := dkwX37_keep_2 ++ dktX37_keep_3
def dkwX37_keep_1 : List UInt8 := [20, 0, 139, 173, 42, 180, 0, 58, 180, 0, 244, 27, 50, 180, 0, 248, 55, 4, 42, 180, 0, 46, 29]
abbrev dktX37_keep_1 : List UInt8 := dkwX37_keep_1 ++ dktX37_keep_2
def dkwX37_keep_0 : List UInt8 := [42, 180, 0, 38, 182, 0, 238, 62, 42, 180, 0, 58, 27, 182, 0, 241, 153, 0, 7, 29, 156, 0, 7]
abbrev dktX37_keep_0 : List UInt8 := dkwX37_keep_0 ++ dktX37_keep_1
theorem dksX37_keep_0 : cX37_keep.data.toList.drop 0 = dktX37_keep_0 := by decide +kernel
theorem dksX37_keep_1 : cX37_keep.data.toList.drop 23 = dktX37_keep_1 := dk_seg dksX37_keep_0 23 rfl rfl
theorem dksX37_keep_2 : cX37_keep.data.toList.drop 46 = dktX37_keep_2 := dk_seg dksX37_keep_1 23 rfl rfl
theorem dksX37_keep_3 : cX37_keep.data.toList.drop 69 = dktX37_keep_3 := dk_seg dksX37_keep_2 23 rfl rfl
theorem dksX37_keep_4 : cX37_keep.data.toList.drop 93 = dktX37_keep_4 := dk_seg dksX37_keep_3 24 rfl rfl
theorem dX37_keep_0 : decode cX37_keep 0 = .ok (.aload_n 0, 1) := dk_42 (dk_at dksX37_keep_0 0 rfl rfl)
theorem dX37_keep_1 : decode cX37_keep 1 = .ok (.getfield 38, 3) := dk_180 0 38 (dk_at dksX37_keep_0 1 rfl rfl)
theorem dX37_keep_4 : decode cX37_keep 4 = .ok (.invokevirtual 238, 3) := dk_182 0 238 (dk_at dksX37_keep_0 4 rfl rfl)
theorem dX37_keep_7 : decode cX37_keep 7 = .ok (.istore_n 3, 1) := dk_62 (dk_at dksX37_keep_0 7 rfl rfl)
theorem dX37_keep_8 : decode cX37_keep 8 = .ok (.aload_n 0, 1) := dk_42 (dk_at dksX37_keep_0 8 rfl rfl)
theorem dX37_keep_9 : decode cX37_keep 9 = .ok (.getfield 58, 3) := dk_180 0 58 (dk_at dksX37_keep_0 9 rfl rfl)
theorem dX37_keep_12 : decode cX37_keep 12 = .ok (.iload_n 1, 1) := dk_27 (dk_at dksX37_keep_0 12 rfl rfl)
theorem dX37_keep_13 : decode cX37_keep 13 = .ok (.invokevirtual 241, 3) := dk_182 0 241 (dk_at dksX37_keep_0 13 rfl rfl)
theorem dX37_keep_16 : decode cX37_keep 16 = .ok (.ifCond .eq 7, 3) := dk_153 0 7 (dk_at dksX37_keep_0 16 rfl rfl)
theorem dX37_keep_19 : decode cX37_keep 19 = .ok (.iload_n 3, 1) := dk_29 (dk_at dksX37_keep_0 19 rfl rfl)
theorem dX37_keep_20 : decode cX37_keep 20 = .ok (.ifCond .ge 7, 3) := dk_156 0 7 (dk_at dksX37_keep_0 20 rfl rfl)
theorem dX37_keep_23 : decode cX37_keep 23 = .ok (.ldc2_w 139, 3) := dk_20 0 139 (dk_at dksX37_keep_1 0 rfl rfl)
theorem dX37_keep_26 : decode cX37_keep 26 = .ok (.lreturn, 1) := dk_173 (dk_at dksX37_keep_1 3 rfl rfl)
theorem dX37_keep_27 : decode cX37_keep 27 = .ok (.aload_n 0, 1) := dk_42 (dk_at dksX37_keep_1 4 rfl rfl)
theorem dX37_keep_28 : decode cX37_keep 28 = .ok (.getfield 58, 3) := dk_180 0 58 (dk_at dksX37_keep_1 5 rfl rfl)
theorem dX37_keep_31 : decode cX37_keep 31 = .ok (.getfield 244, 3) := dk_180 0 244 (dk_at dksX37_keep_1 8 rfl rfl)
theorem dX37_keep_34 : decode cX37_keep 34 = .ok (.iload_n 1, 1) := dk_27 (dk_at dksX37_keep_1 11 rfl rfl)
theorem dX37_keep_35 : decode cX37_keep 35 = .ok (.aaload, 1) := dk_50 (dk_at dksX37_keep_1 12 rfl rfl)
theorem dX37_keep_36 : decode cX37_keep 36 = .ok (.getfield 248, 3) := dk_180 0 248 (dk_at dksX37_keep_1 13 rfl rfl)
theorem dX37_keep_39 : decode cX37_keep 39 = .ok (.lstore 4, 2) := dk_55 4 (dk_at dksX37_keep_1 16 rfl rfl)
theorem dX37_keep_41 : decode cX37_keep 41 = .ok (.aload_n 0, 1) := dk_42 (dk_at dksX37_keep_1 18 rfl rfl)
theorem dX37_keep_42 : decode cX37_keep 42 = .ok (.getfield 46, 3) := dk_180 0 46 (dk_at dksX37_keep_1 19 rfl rfl)
theorem dX37_keep_45 : decode cX37_keep 45 = .ok (.iload_n 3, 1) := dk_29 (dk_at dksX37_keep_1 22 rfl rfl)
theorem dX37_keep_46 : decode cX37_keep 46 = .ok (.lload 4, 2) := dk_22 4 (dk_at dksX37_keep_2 0 rfl rfl)
theorem dX37_keep_48 : decode cX37_keep 48 = .ok (.ldc2_w 254, 3) := dk_20 0 254 (dk_at dksX37_keep_2 2 rfl rfl)
theorem dX37_keep_51 : decode cX37_keep 51 = .ok (.invokestatic 256, 3) := dk_184 1 0 (dk_at dksX37_keep_2 5 rfl rfl)
theorem dX37_keep_54 : decode cX37_keep 54 = .ok (.lload 4, 2) := dk_22 4 (dk_at dksX37_keep_2 8 rfl rfl)
theorem dX37_keep_56 : decode cX37_keep 56 = .ok (.ldc2_w 227, 3) := dk_20 0 227 (dk_at dksX37_keep_2 10 rfl rfl)
theorem dX37_keep_59 : decode cX37_keep 59 = .ok (.ldiv, 1) := dk_109 (dk_at dksX37_keep_2 13 rfl rfl)
theorem dX37_keep_60 : decode cX37_keep 60 = .ok (.ldc2_w 262, 3) := dk_20 1 6 (dk_at dksX37_keep_2 14 rfl rfl)
theorem dX37_keep_63 : decode cX37_keep 63 = .ok (.invokestatic 256, 3) := dk_184 1 0 (dk_at dksX37_keep_2 17 rfl rfl)
theorem dX37_keep_66 : decode cX37_keep 66 = .ok (.invokevirtual 264, 3) := dk_182 1 8 (dk_at dksX37_keep_2 20 rfl rfl)
theorem dX37_keep_69 : decode cX37_keep 69 = .ok (.istore 6, 2) := dk_54 6 (dk_at dksX37_keep_3 0 rfl rfl)
theorem dX37_keep_71 : decode cX37_keep 71 = .ok (.iload 6, 2) := dk_21 6 (dk_at dksX37_keep_3 2 rfl rfl)
theorem dX37_keep_73 : decode cX37_keep 73 = .ok (.ifCond .ge 9, 3) := dk_156 0 9 (dk_at dksX37_keep_3 4 rfl rfl)
theorem dX37_keep_76 : decode cX37_keep 76 = .ok (.ldc2_w 139, 3) := dk_20 0 139 (dk_at dksX37_keep_3 7 rfl rfl)
theorem dX37_keep_79 : decode cX37_keep 79 = .ok (.goto 14, 3) := dk_167 0 14 (dk_at dksX37_keep_3 10 rfl rfl)
theorem dX37_keep_82 : decode cX37_keep 82 = .ok (.aload_n 0, 1) := dk_42 (dk_at dksX37_keep_3 13 rfl rfl)
theorem dX37_keep_83 : decode cX37_keep 83 = .ok (.getfield 46, 3) := dk_180 0 46 (dk_at dksX37_keep_3 14 rfl rfl)
theorem dX37_keep_86 : decode cX37_keep 86 = .ok (.iload 6, 2) := dk_21 6 (dk_at dksX37_keep_3 17 rfl rfl)
theorem dX37_keep_88 : decode cX37_keep 88 = .ok (.iload_n 2, 1) := dk_28 (dk_at dksX37_keep_3 19 rfl rfl)
theorem dX37_keep_89 : decode cX37_keep 89 = .ok (.invokevirtual 268, 3) := dk_182 1 12 (dk_at dksX37_keep_3 20 rfl rfl)
theorem dX37_keep_92 : decode cX37_keep 92 = .ok (.i2l, 1) := dk_133 (dk_at dksX37_keep_3 23 rfl rfl)
theorem dX37_keep_93 : decode cX37_keep 93 = .ok (.lreturn, 1) := dk_173 (dk_at dksX37_keep_4 0 rfl rfl)
abbrev cX37_undo : ByteArray := prog_24_method_9_code
def yX37_undo : MethodName := ⟨RX37, "undo", "()J"⟩
def dkwX37_undo_9 : List UInt8 := [132, 3, 1, 167, 255, 160, 27, 133, 173]
abbrev dktX37_undo_9 : List UInt8 := dkwX37_undo_9 ++ []
def dkwX37_undo_8 : List UInt8 := [182, 1, 51, 87, 132, 4, 1, 42, 180, 0, 50, 29, 21, 4, 182, 1, 48, 54, 5, 167, 255, 195]
abbrev dktX37_undo_8 : List UInt8 := dkwX37_undo_8 ++ dktX37_undo_9
def dkwX37_undo_7 : List UInt8 := [21, 5, 46, 155, 0, 24, 42, 180, 0, 54, 42, 180, 0, 26, 21, 5, 46, 42, 180, 0, 26, 29, 46]
abbrev dktX37_undo_7 : List UInt8 := dkwX37_undo_7 ++ dktX37_undo_8
def dkwX37_undo_6 : List UInt8 := [182, 1, 48, 54, 5, 21, 5, 2, 159, 0, 61, 42, 180, 0, 26, 29, 46, 155, 0, 34, 42, 180, 0, 26]
abbrev dktX37_undo_6 : List UInt8 := dkwX37_undo_6 ++ dktX37_undo_7
def dkwX37_undo_5 : List UInt8 := [42, 180, 0, 50, 180, 1, 16, 180, 1, 27, 162, 0, 88, 3, 54, 4, 42, 180, 0, 50, 29, 21, 4]
abbrev dktX37_undo_5 : List UInt8 := dkwX37_undo_5 ++ dktX37_undo_6
def dkwX37_undo_4 : List UInt8 := [180, 0, 26, 29, 46, 156, 0, 7, 3, 167, 0, 4, 4, 96, 60, 132, 3, 1, 167, 255, 161, 3, 62, 29]
abbrev dktX37_undo_4 : List UInt8 := dkwX37_undo_4 ++ dktX37_undo_5
def dkwX37_undo_3 : List UInt8 := [16, 6, 112, 25, 4, 180, 1, 37, 4, 96, 25, 4, 180, 1, 40, 133, 182, 1, 42, 79, 27, 42]
abbrev dktX37_undo_3 : List UInt8 := dkwX37_undo_3 ++ dktX37_undo_4
def dkwX37_undo_2 : List UInt8 := [29, 28, 29, 122, 4, 126, 154, 0, 7, 2, 167, 0, 32, 42, 180, 0, 54, 29, 25, 4, 180, 1, 32]
abbrev dktX37_undo_2 : List UInt8 := dkwX37_undo_2 ++ dktX37_undo_3
def dkwX37_undo_1 : List UInt8 := [180, 1, 27, 162, 0, 87, 42, 180, 0, 50, 180, 1, 16, 180, 1, 28, 29, 50, 58, 4, 42, 180, 0, 26]
abbrev dktX37_undo_1 : List UInt8 := dkwX37_undo_1 ++ dktX37_undo_2
def dkwX37_undo_0 : List UInt8 := [3, 60, 42, 180, 0, 50, 180, 1, 16, 2, 182, 1, 22, 61, 3, 62, 29, 42, 180, 0, 50, 180, 1, 16]
abbrev dktX37_undo_0 : List UInt8 := dkwX37_undo_0 ++ dktX37_undo_1
theorem dksX37_undo_0 : cX37_undo.data.toList.drop 0 = dktX37_undo_0 := by decide +kernel
theorem dksX37_undo_1 : cX37_undo.data.toList.drop 24 = dktX37_undo_1 := dk_seg dksX37_undo_0 24 rfl rfl
theorem dksX37_undo_2 : cX37_undo.data.toList.drop 48 = dktX37_undo_2 := dk_seg dksX37_undo_1 24 rfl rfl
theorem dksX37_undo_3 : cX37_undo.data.toList.drop 71 = dktX37_undo_3 := dk_seg dksX37_undo_2 23 rfl rfl
theorem dksX37_undo_4 : cX37_undo.data.toList.drop 93 = dktX37_undo_4 := dk_seg dksX37_undo_3 22 rfl rfl
theorem dksX37_undo_5 : cX37_undo.data.toList.drop 117 = dktX37_undo_5 := dk_seg dksX37_undo_4 24 rfl rfl
theorem dksX37_undo_6 : cX37_undo.data.toList.drop 140 = dktX37_undo_6 := dk_seg dksX37_undo_5 23 rfl rfl
theorem dksX37_undo_7 : cX37_undo.data.toList.drop 164 = dktX37_undo_7 := dk_seg dksX37_undo_6 24 rfl rfl
theorem dksX37_undo_8 : cX37_undo.data.toList.drop 187 = dktX37_undo_8 := dk_seg dksX37_undo_7 23 rfl rfl
theorem dksX37_undo_9 : cX37_undo.data.toList.drop 209 = dktX37_undo_9 := dk_seg dksX37_undo_8 22 rfl rfl
theorem dX37_undo_0 : decode cX37_undo 0 = .ok (.iconst 0, 1) := dk_3 (dk_at dksX37_undo_0 0 rfl rfl)
theorem dX37_undo_1 : decode cX37_undo 1 = .ok (.istore_n 1, 1) := dk_60 (dk_at dksX37_undo_0 1 rfl rfl)
theorem dX37_undo_2 : decode cX37_undo 2 = .ok (.aload_n 0, 1) := dk_42 (dk_at dksX37_undo_0 2 rfl rfl)
theorem dX37_undo_3 : decode cX37_undo 3 = .ok (.getfield 50, 3) := dk_180 0 50 (dk_at dksX37_undo_0 3 rfl rfl)
theorem dX37_undo_6 : decode cX37_undo 6 = .ok (.getfield 272, 3) := dk_180 1 16 (dk_at dksX37_undo_0 6 rfl rfl)
theorem dX37_undo_9 : decode cX37_undo 9 = .ok (.iconst (-1), 1) := dk_2 (dk_at dksX37_undo_0 9 rfl rfl)
theorem dX37_undo_10 : decode cX37_undo 10 = .ok (.invokevirtual 278, 3) := dk_182 1 22 (dk_at dksX37_undo_0 10 rfl rfl)
theorem dX37_undo_13 : decode cX37_undo 13 = .ok (.istore_n 2, 1) := dk_61 (dk_at dksX37_undo_0 13 rfl rfl)
theorem dX37_undo_14 : decode cX37_undo 14 = .ok (.iconst 0, 1) := dk_3 (dk_at dksX37_undo_0 14 rfl rfl)
theorem dX37_undo_15 : decode cX37_undo 15 = .ok (.istore_n 3, 1) := dk_62 (dk_at dksX37_undo_0 15 rfl rfl)
theorem dX37_undo_16 : decode cX37_undo 16 = .ok (.iload_n 3, 1) := dk_29 (dk_at dksX37_undo_0 16 rfl rfl)
theorem dX37_undo_17 : decode cX37_undo 17 = .ok (.aload_n 0, 1) := dk_42 (dk_at dksX37_undo_0 17 rfl rfl)
theorem dX37_undo_18 : decode cX37_undo 18 = .ok (.getfield 50, 3) := dk_180 0 50 (dk_at dksX37_undo_0 18 rfl rfl)
theorem dX37_undo_21 : decode cX37_undo 21 = .ok (.getfield 272, 3) := dk_180 1 16 (dk_at dksX37_undo_0 21 rfl rfl)
theorem dX37_undo_24 : decode cX37_undo 24 = .ok (.getfield 283, 3) := dk_180 1 27 (dk_at dksX37_undo_1 0 rfl rfl)
theorem dX37_undo_27 : decode cX37_undo 27 = .ok (.if_icmp .ge 87, 3) := dk_162 0 87 (dk_at dksX37_undo_1 3 rfl rfl)
theorem dX37_undo_30 : decode cX37_undo 30 = .ok (.aload_n 0, 1) := dk_42 (dk_at dksX37_undo_1 6 rfl rfl)
theorem dX37_undo_31 : decode cX37_undo 31 = .ok (.getfield 50, 3) := dk_180 0 50 (dk_at dksX37_undo_1 7 rfl rfl)
theorem dX37_undo_34 : decode cX37_undo 34 = .ok (.getfield 272, 3) := dk_180 1 16 (dk_at dksX37_undo_1 10 rfl rfl)
theorem dX37_undo_37 : decode cX37_undo 37 = .ok (.getfield 284, 3) := dk_180 1 28 (dk_at dksX37_undo_1 13 rfl rfl)
theorem dX37_undo_40 : decode cX37_undo 40 = .ok (.iload_n 3, 1) := dk_29 (dk_at dksX37_undo_1 16 rfl rfl)
theorem dX37_undo_41 : decode cX37_undo 41 = .ok (.aaload, 1) := dk_50 (dk_at dksX37_undo_1 17 rfl rfl)
theorem dX37_undo_42 : decode cX37_undo 42 = .ok (.astore 4, 2) := dk_58 4 (dk_at dksX37_undo_1 18 rfl rfl)
theorem dX37_undo_44 : decode cX37_undo 44 = .ok (.aload_n 0, 1) := dk_42 (dk_at dksX37_undo_1 20 rfl rfl)
theorem dX37_undo_45 : decode cX37_undo 45 = .ok (.getfield 26, 3) := dk_180 0 26 (dk_at dksX37_undo_1 21 rfl rfl)
theorem dX37_undo_48 : decode cX37_undo 48 = .ok (.iload_n 3, 1) := dk_29 (dk_at dksX37_undo_2 0 rfl rfl)
theorem dX37_undo_49 : decode cX37_undo 49 = .ok (.iload_n 2, 1) := dk_28 (dk_at dksX37_undo_2 1 rfl rfl)
theorem dX37_undo_50 : decode cX37_undo 50 = .ok (.iload_n 3, 1) := dk_29 (dk_at dksX37_undo_2 2 rfl rfl)
theorem dX37_undo_51 : decode cX37_undo 51 = .ok (.ishr, 1) := dk_122 (dk_at dksX37_undo_2 3 rfl rfl)
theorem dX37_undo_52 : decode cX37_undo 52 = .ok (.iconst 1, 1) := dk_4 (dk_at dksX37_undo_2 4 rfl rfl)
theorem dX37_undo_53 : decode cX37_undo 53 = .ok (.iand, 1) := dk_126 (dk_at dksX37_undo_2 5 rfl rfl)
theorem dX37_undo_54 : decode cX37_undo 54 = .ok (.ifCond .ne 7, 3) := dk_154 0 7 (dk_at dksX37_undo_2 6 rfl rfl)
theorem dX37_undo_57 : decode cX37_undo 57 = .ok (.iconst (-1), 1) := dk_2 (dk_at dksX37_undo_2 9 rfl rfl)
theorem dX37_undo_58 : decode cX37_undo 58 = .ok (.goto 32, 3) := dk_167 0 32 (dk_at dksX37_undo_2 10 rfl rfl)
theorem dX37_undo_61 : decode cX37_undo 61 = .ok (.aload_n 0, 1) := dk_42 (dk_at dksX37_undo_2 13 rfl rfl)
theorem dX37_undo_62 : decode cX37_undo 62 = .ok (.getfield 54, 3) := dk_180 0 54 (dk_at dksX37_undo_2 14 rfl rfl)
theorem dX37_undo_65 : decode cX37_undo 65 = .ok (.iload_n 3, 1) := dk_29 (dk_at dksX37_undo_2 17 rfl rfl)
theorem dX37_undo_66 : decode cX37_undo 66 = .ok (.aload 4, 2) := dk_25 4 (dk_at dksX37_undo_2 18 rfl rfl)
theorem dX37_undo_68 : decode cX37_undo 68 = .ok (.getfield 288, 3) := dk_180 1 32 (dk_at dksX37_undo_2 20 rfl rfl)
theorem dX37_undo_71 : decode cX37_undo 71 = .ok (.bipush 6, 2) := dk_16 6 (dk_at dksX37_undo_3 0 rfl rfl)
theorem dX37_undo_73 : decode cX37_undo 73 = .ok (.irem, 1) := dk_112 (dk_at dksX37_undo_3 2 rfl rfl)
theorem dX37_undo_74 : decode cX37_undo 74 = .ok (.aload 4, 2) := dk_25 4 (dk_at dksX37_undo_3 3 rfl rfl)
theorem dX37_undo_76 : decode cX37_undo 76 = .ok (.getfield 293, 3) := dk_180 1 37 (dk_at dksX37_undo_3 5 rfl rfl)
theorem dX37_undo_79 : decode cX37_undo 79 = .ok (.iconst 1, 1) := dk_4 (dk_at dksX37_undo_3 8 rfl rfl)
theorem dX37_undo_80 : decode cX37_undo 80 = .ok (.iadd, 1) := dk_96 (dk_at dksX37_undo_3 9 rfl rfl)
theorem dX37_undo_81 : decode cX37_undo 81 = .ok (.aload 4, 2) := dk_25 4 (dk_at dksX37_undo_3 10 rfl rfl)
theorem dX37_undo_83 : decode cX37_undo 83 = .ok (.getfield 296, 3) := dk_180 1 40 (dk_at dksX37_undo_3 12 rfl rfl)
theorem dX37_undo_86 : decode cX37_undo 86 = .ok (.i2l, 1) := dk_133 (dk_at dksX37_undo_3 15 rfl rfl)
theorem dX37_undo_87 : decode cX37_undo 87 = .ok (.invokevirtual 298, 3) := dk_182 1 42 (dk_at dksX37_undo_3 16 rfl rfl)
theorem dX37_undo_90 : decode cX37_undo 90 = .ok (.iastore, 1) := dk_79 (dk_at dksX37_undo_3 19 rfl rfl)
theorem dX37_undo_91 : decode cX37_undo 91 = .ok (.iload_n 1, 1) := dk_27 (dk_at dksX37_undo_3 20 rfl rfl)
theorem dX37_undo_92 : decode cX37_undo 92 = .ok (.aload_n 0, 1) := dk_42 (dk_at dksX37_undo_3 21 rfl rfl)
theorem dX37_undo_93 : decode cX37_undo 93 = .ok (.getfield 26, 3) := dk_180 0 26 (dk_at dksX37_undo_4 0 rfl rfl)
theorem dX37_undo_96 : decode cX37_undo 96 = .ok (.iload_n 3, 1) := dk_29 (dk_at dksX37_undo_4 3 rfl rfl)
theorem dX37_undo_97 : decode cX37_undo 97 = .ok (.iaload, 1) := dk_46 (dk_at dksX37_undo_4 4 rfl rfl)
theorem dX37_undo_98 : decode cX37_undo 98 = .ok (.ifCond .ge 7, 3) := dk_156 0 7 (dk_at dksX37_undo_4 5 rfl rfl)
theorem dX37_undo_101 : decode cX37_undo 101 = .ok (.iconst 0, 1) := dk_3 (dk_at dksX37_undo_4 8 rfl rfl)
theorem dX37_undo_102 : decode cX37_undo 102 = .ok (.goto 4, 3) := dk_167 0 4 (dk_at dksX37_undo_4 9 rfl rfl)
theorem dX37_undo_105 : decode cX37_undo 105 = .ok (.iconst 1, 1) := dk_4 (dk_at dksX37_undo_4 12 rfl rfl)
theorem dX37_undo_106 : decode cX37_undo 106 = .ok (.iadd, 1) := dk_96 (dk_at dksX37_undo_4 13 rfl rfl)
theorem dX37_undo_107 : decode cX37_undo 107 = .ok (.istore_n 1, 1) := dk_60 (dk_at dksX37_undo_4 14 rfl rfl)
theorem dX37_undo_108 : decode cX37_undo 108 = .ok (.iinc 3 1, 3) := dk_132 3 1 (dk_at dksX37_undo_4 15 rfl rfl)
theorem dX37_undo_111 : decode cX37_undo 111 = .ok (.goto (-95), 3) := dk_167 255 161 (dk_at dksX37_undo_4 18 rfl rfl)
theorem dX37_undo_114 : decode cX37_undo 114 = .ok (.iconst 0, 1) := dk_3 (dk_at dksX37_undo_4 21 rfl rfl)
theorem dX37_undo_115 : decode cX37_undo 115 = .ok (.istore_n 3, 1) := dk_62 (dk_at dksX37_undo_4 22 rfl rfl)
theorem dX37_undo_116 : decode cX37_undo 116 = .ok (.iload_n 3, 1) := dk_29 (dk_at dksX37_undo_4 23 rfl rfl)
theorem dX37_undo_117 : decode cX37_undo 117 = .ok (.aload_n 0, 1) := dk_42 (dk_at dksX37_undo_5 0 rfl rfl)
theorem dX37_undo_118 : decode cX37_undo 118 = .ok (.getfield 50, 3) := dk_180 0 50 (dk_at dksX37_undo_5 1 rfl rfl)
theorem dX37_undo_121 : decode cX37_undo 121 = .ok (.getfield 272, 3) := dk_180 1 16 (dk_at dksX37_undo_5 4 rfl rfl)
theorem dX37_undo_124 : decode cX37_undo 124 = .ok (.getfield 283, 3) := dk_180 1 27 (dk_at dksX37_undo_5 7 rfl rfl)
theorem dX37_undo_127 : decode cX37_undo 127 = .ok (.if_icmp .ge 88, 3) := dk_162 0 88 (dk_at dksX37_undo_5 10 rfl rfl)
theorem dX37_undo_130 : decode cX37_undo 130 = .ok (.iconst 0, 1) := dk_3 (dk_at dksX37_undo_5 13 rfl rfl)
theorem dX37_undo_131 : decode cX37_undo 131 = .ok (.istore 4, 2) := dk_54 4 (dk_at dksX37_undo_5 14 rfl rfl)
theorem dX37_undo_133 : decode cX37_undo 133 = .ok (.aload_n 0, 1) := dk_42 (dk_at dksX37_undo_5 16 rfl rfl)
theorem dX37_undo_134 : decode cX37_undo 134 = .ok (.getfield 50, 3) := dk_180 0 50 (dk_at dksX37_undo_5 17 rfl rfl)
theorem dX37_undo_137 : decode cX37_undo 137 = .ok (.iload_n 3, 1) := dk_29 (dk_at dksX37_undo_5 20 rfl rfl)
theorem dX37_undo_138 : decode cX37_undo 138 = .ok (.iload 4, 2) := dk_21 4 (dk_at dksX37_undo_5 21 rfl rfl)
theorem dX37_undo_140 : decode cX37_undo 140 = .ok (.invokevirtual 304, 3) := dk_182 1 48 (dk_at dksX37_undo_6 0 rfl rfl)
theorem dX37_undo_143 : decode cX37_undo 143 = .ok (.istore 5, 2) := dk_54 5 (dk_at dksX37_undo_6 3 rfl rfl)
theorem dX37_undo_145 : decode cX37_undo 145 = .ok (.iload 5, 2) := dk_21 5 (dk_at dksX37_undo_6 5 rfl rfl)
theorem dX37_undo_147 : decode cX37_undo 147 = .ok (.iconst (-1), 1) := dk_2 (dk_at dksX37_undo_6 7 rfl rfl)
theorem dX37_undo_148 : decode cX37_undo 148 = .ok (.if_icmp .eq 61, 3) := dk_159 0 61 (dk_at dksX37_undo_6 8 rfl rfl)
theorem dX37_undo_151 : decode cX37_undo 151 = .ok (.aload_n 0, 1) := dk_42 (dk_at dksX37_undo_6 11 rfl rfl)
theorem dX37_undo_152 : decode cX37_undo 152 = .ok (.getfield 26, 3) := dk_180 0 26 (dk_at dksX37_undo_6 12 rfl rfl)
theorem dX37_undo_155 : decode cX37_undo 155 = .ok (.iload_n 3, 1) := dk_29 (dk_at dksX37_undo_6 15 rfl rfl)
theorem dX37_undo_156 : decode cX37_undo 156 = .ok (.iaload, 1) := dk_46 (dk_at dksX37_undo_6 16 rfl rfl)
theorem dX37_undo_157 : decode cX37_undo 157 = .ok (.ifCond .lt 34, 3) := dk_155 0 34 (dk_at dksX37_undo_6 17 rfl rfl)
theorem dX37_undo_160 : decode cX37_undo 160 = .ok (.aload_n 0, 1) := dk_42 (dk_at dksX37_undo_6 20 rfl rfl)
theorem dX37_undo_161 : decode cX37_undo 161 = .ok (.getfield 26, 3) := dk_180 0 26 (dk_at dksX37_undo_6 21 rfl rfl)
theorem dX37_undo_164 : decode cX37_undo 164 = .ok (.iload 5, 2) := dk_21 5 (dk_at dksX37_undo_7 0 rfl rfl)
theorem dX37_undo_166 : decode cX37_undo 166 = .ok (.iaload, 1) := dk_46 (dk_at dksX37_undo_7 2 rfl rfl)
theorem dX37_undo_167 : decode cX37_undo 167 = .ok (.ifCond .lt 24, 3) := dk_155 0 24 (dk_at dksX37_undo_7 3 rfl rfl)
theorem dX37_undo_170 : decode cX37_undo 170 = .ok (.aload_n 0, 1) := dk_42 (dk_at dksX37_undo_7 6 rfl rfl)
theorem dX37_undo_171 : decode cX37_undo 171 = .ok (.getfield 54, 3) := dk_180 0 54 (dk_at dksX37_undo_7 7 rfl rfl)
theorem dX37_undo_174 : decode cX37_undo 174 = .ok (.aload_n 0, 1) := dk_42 (dk_at dksX37_undo_7 10 rfl rfl)
theorem dX37_undo_175 : decode cX37_undo 175 = .ok (.getfield 26, 3) := dk_180 0 26 (dk_at dksX37_undo_7 11 rfl rfl)
theorem dX37_undo_178 : decode cX37_undo 178 = .ok (.iload 5, 2) := dk_21 5 (dk_at dksX37_undo_7 14 rfl rfl)
theorem dX37_undo_180 : decode cX37_undo 180 = .ok (.iaload, 1) := dk_46 (dk_at dksX37_undo_7 16 rfl rfl)
theorem dX37_undo_181 : decode cX37_undo 181 = .ok (.aload_n 0, 1) := dk_42 (dk_at dksX37_undo_7 17 rfl rfl)
theorem dX37_undo_182 : decode cX37_undo 182 = .ok (.getfield 26, 3) := dk_180 0 26 (dk_at dksX37_undo_7 18 rfl rfl)
theorem dX37_undo_185 : decode cX37_undo 185 = .ok (.iload_n 3, 1) := dk_29 (dk_at dksX37_undo_7 21 rfl rfl)
theorem dX37_undo_186 : decode cX37_undo 186 = .ok (.iaload, 1) := dk_46 (dk_at dksX37_undo_7 22 rfl rfl)
theorem dX37_undo_187 : decode cX37_undo 187 = .ok (.invokevirtual 307, 3) := dk_182 1 51 (dk_at dksX37_undo_8 0 rfl rfl)
theorem dX37_undo_190 : decode cX37_undo 190 = .ok (.pop, 1) := dk_87 (dk_at dksX37_undo_8 3 rfl rfl)
theorem dX37_undo_191 : decode cX37_undo 191 = .ok (.iinc 4 1, 3) := dk_132 4 1 (dk_at dksX37_undo_8 4 rfl rfl)
theorem dX37_undo_194 : decode cX37_undo 194 = .ok (.aload_n 0, 1) := dk_42 (dk_at dksX37_undo_8 7 rfl rfl)
theorem dX37_undo_195 : decode cX37_undo 195 = .ok (.getfield 50, 3) := dk_180 0 50 (dk_at dksX37_undo_8 8 rfl rfl)
theorem dX37_undo_198 : decode cX37_undo 198 = .ok (.iload_n 3, 1) := dk_29 (dk_at dksX37_undo_8 11 rfl rfl)
theorem dX37_undo_199 : decode cX37_undo 199 = .ok (.iload 4, 2) := dk_21 4 (dk_at dksX37_undo_8 12 rfl rfl)
theorem dX37_undo_201 : decode cX37_undo 201 = .ok (.invokevirtual 304, 3) := dk_182 1 48 (dk_at dksX37_undo_8 14 rfl rfl)
theorem dX37_undo_204 : decode cX37_undo 204 = .ok (.istore 5, 2) := dk_54 5 (dk_at dksX37_undo_8 17 rfl rfl)
theorem dX37_undo_206 : decode cX37_undo 206 = .ok (.goto (-61), 3) := dk_167 255 195 (dk_at dksX37_undo_8 19 rfl rfl)
theorem dX37_undo_209 : decode cX37_undo 209 = .ok (.iinc 3 1, 3) := dk_132 3 1 (dk_at dksX37_undo_9 0 rfl rfl)
theorem dX37_undo_212 : decode cX37_undo 212 = .ok (.goto (-96), 3) := dk_167 255 160 (dk_at dksX37_undo_9 3 rfl rfl)
theorem dX37_undo_215 : decode cX37_undo 215 = .ok (.iload_n 1, 1) := dk_27 (dk_at dksX37_undo_9 6 rfl rfl)
theorem dX37_undo_216 : decode cX37_undo 216 = .ok (.i2l, 1) := dk_133 (dk_at dksX37_undo_9 7 rfl rfl)
theorem dX37_undo_217 : decode cX37_undo 217 = .ok (.lreturn, 1) := dk_173 (dk_at dksX37_undo_9 8 rfl rfl)
abbrev cX37_refund : ByteArray := prog_24_method_10_code
def yX37_refund : MethodName := ⟨RX37, "refund", "(IJIIJ)J"⟩
def dkwX37_refund_1 : List UInt8 := [180, 0, 16, 6, 5, 20, 1, 60, 182, 0, 220, 21, 8, 133, 173]
abbrev dktX37_refund_1 : List UInt8 := dkwX37_refund_1 ++ []
def dkwX37_refund_0 : List UInt8 := [42, 180, 0, 62, 27, 32, 21, 4, 21, 5, 22, 6, 182, 1, 54, 54, 8, 21, 8, 4, 160, 0, 15, 42]
abbrev dktX37_refund_0 : List UInt8 := dkwX37_refund_0 ++ dktX37_refund_1
theorem dksX37_refund_0 : cX37_refund.data.toList.drop 0 = dktX37_refund_0 := by decide +kernel
theorem dksX37_refund_1 : cX37_refund.data.toList.drop 24 = dktX37_refund_1 := dk_seg dksX37_refund_0 24 rfl rfl
theorem dX37_refund_0 : decode cX37_refund 0 = .ok (.aload_n 0, 1) := dk_42 (dk_at dksX37_refund_0 0 rfl rfl)
theorem dX37_refund_1 : decode cX37_refund 1 = .ok (.getfield 62, 3) := dk_180 0 62 (dk_at dksX37_refund_0 1 rfl rfl)
theorem dX37_refund_4 : decode cX37_refund 4 = .ok (.iload_n 1, 1) := dk_27 (dk_at dksX37_refund_0 4 rfl rfl)
theorem dX37_refund_5 : decode cX37_refund 5 = .ok (.lload_n 2, 1) := dk_32 (dk_at dksX37_refund_0 5 rfl rfl)
theorem dX37_refund_6 : decode cX37_refund 6 = .ok (.iload 4, 2) := dk_21 4 (dk_at dksX37_refund_0 6 rfl rfl)
theorem dX37_refund_8 : decode cX37_refund 8 = .ok (.iload 5, 2) := dk_21 5 (dk_at dksX37_refund_0 8 rfl rfl)
theorem dX37_refund_10 : decode cX37_refund 10 = .ok (.lload 6, 2) := dk_22 6 (dk_at dksX37_refund_0 10 rfl rfl)
theorem dX37_refund_12 : decode cX37_refund 12 = .ok (.invokevirtual 310, 3) := dk_182 1 54 (dk_at dksX37_refund_0 12 rfl rfl)
theorem dX37_refund_15 : decode cX37_refund 15 = .ok (.istore 8, 2) := dk_54 8 (dk_at dksX37_refund_0 15 rfl rfl)
theorem dX37_refund_17 : decode cX37_refund 17 = .ok (.iload 8, 2) := dk_21 8 (dk_at dksX37_refund_0 17 rfl rfl)
theorem dX37_refund_19 : decode cX37_refund 19 = .ok (.iconst 1, 1) := dk_4 (dk_at dksX37_refund_0 19 rfl rfl)
theorem dX37_refund_20 : decode cX37_refund 20 = .ok (.if_icmp .ne 15, 3) := dk_160 0 15 (dk_at dksX37_refund_0 20 rfl rfl)
theorem dX37_refund_23 : decode cX37_refund 23 = .ok (.aload_n 0, 1) := dk_42 (dk_at dksX37_refund_0 23 rfl rfl)
theorem dX37_refund_24 : decode cX37_refund 24 = .ok (.getfield 16, 3) := dk_180 0 16 (dk_at dksX37_refund_1 0 rfl rfl)
theorem dX37_refund_27 : decode cX37_refund 27 = .ok (.iconst 3, 1) := dk_6 (dk_at dksX37_refund_1 3 rfl rfl)
theorem dX37_refund_28 : decode cX37_refund 28 = .ok (.iconst 2, 1) := dk_5 (dk_at dksX37_refund_1 4 rfl rfl)
theorem dX37_refund_29 : decode cX37_refund 29 = .ok (.ldc2_w 316, 3) := dk_20 1 60 (dk_at dksX37_refund_1 5 rfl rfl)
theorem dX37_refund_32 : decode cX37_refund 32 = .ok (.invokevirtual 220, 3) := dk_182 0 220 (dk_at dksX37_refund_1 8 rfl rfl)
theorem dX37_refund_35 : decode cX37_refund 35 = .ok (.iload 8, 2) := dk_21 8 (dk_at dksX37_refund_1 11 rfl rfl)
theorem dX37_refund_37 : decode cX37_refund 37 = .ok (.i2l, 1) := dk_133 (dk_at dksX37_refund_1 13 rfl rfl)
theorem dX37_refund_38 : decode cX37_refund 38 = .ok (.lreturn, 1) := dk_173 (dk_at dksX37_refund_1 14 rfl rfl)
abbrev cX37_fee : ByteArray := prog_24_method_11_code
def yX37_fee : MethodName := ⟨RX37, "fee", "(IJ)J"⟩
def dkwX37_fee_4 : List UInt8 := [132, 6, 1, 167, 255, 199, 22, 4, 173]
abbrev dktX37_fee_4 : List UInt8 := dkwX37_fee_4 ++ []
def dkwX37_fee_3 : List UInt8 := [42, 180, 0, 16, 16, 8, 21, 6, 96, 7, 22, 7, 182, 0, 220, 22, 4, 22, 7, 97, 55, 4]
abbrev dktX37_fee_3 : List UInt8 := dkwX37_fee_3 ++ dktX37_fee_4
def dkwX37_fee_2 : List UInt8 := [180, 0, 30, 27, 21, 6, 182, 1, 64, 32, 105, 20, 0, 227, 109, 55, 7, 22, 7, 9, 148, 158, 0, 25]
abbrev dktX37_fee_2 : List UInt8 := dkwX37_fee_2 ++ dktX37_fee_3
def dkwX37_fee_1 : List UInt8 := [148, 156, 0, 7, 20, 0, 139, 173, 9, 55, 4, 3, 54, 6, 21, 6, 16, 8, 162, 0, 56, 42]
abbrev dktX37_fee_1 : List UInt8 := dkwX37_fee_1 ++ dktX37_fee_2
def dkwX37_fee_0 : List UInt8 := [32, 9, 148, 155, 0, 25, 32, 20, 1, 62, 148, 157, 0, 17, 42, 180, 0, 30, 27, 3, 182, 1, 64, 9]
abbrev dktX37_fee_0 : List UInt8 := dkwX37_fee_0 ++ dktX37_fee_1
theorem dksX37_fee_0 : cX37_fee.data.toList.drop 0 = dktX37_fee_0 := by decide +kernel
theorem dksX37_fee_1 : cX37_fee.data.toList.drop 24 = dktX37_fee_1 := dk_seg dksX37_fee_0 24 rfl rfl
theorem dksX37_fee_2 : cX37_fee.data.toList.drop 46 = dktX37_fee_2 := dk_seg dksX37_fee_1 22 rfl rfl
theorem dksX37_fee_3 : cX37_fee.data.toList.drop 70 = dktX37_fee_3 := dk_seg dksX37_fee_2 24 rfl rfl
theorem dksX37_fee_4 : cX37_fee.data.toList.drop 92 = dktX37_fee_4 := dk_seg dksX37_fee_3 22 rfl rfl
theorem dX37_fee_0 : decode cX37_fee 0 = .ok (.lload_n 2, 1) := dk_32 (dk_at dksX37_fee_0 0 rfl rfl)
theorem dX37_fee_1 : decode cX37_fee 1 = .ok (.lconst 0, 1) := dk_9 (dk_at dksX37_fee_0 1 rfl rfl)
theorem dX37_fee_2 : decode cX37_fee 2 = .ok (.lcmp, 1) := dk_148 (dk_at dksX37_fee_0 2 rfl rfl)
theorem dX37_fee_3 : decode cX37_fee 3 = .ok (.ifCond .lt 25, 3) := dk_155 0 25 (dk_at dksX37_fee_0 3 rfl rfl)
theorem dX37_fee_6 : decode cX37_fee 6 = .ok (.lload_n 2, 1) := dk_32 (dk_at dksX37_fee_0 6 rfl rfl)
theorem dX37_fee_7 : decode cX37_fee 7 = .ok (.ldc2_w 318, 3) := dk_20 1 62 (dk_at dksX37_fee_0 7 rfl rfl)
theorem dX37_fee_10 : decode cX37_fee 10 = .ok (.lcmp, 1) := dk_148 (dk_at dksX37_fee_0 10 rfl rfl)
theorem dX37_fee_11 : decode cX37_fee 11 = .ok (.ifCond .gt 17, 3) := dk_157 0 17 (dk_at dksX37_fee_0 11 rfl rfl)
theorem dX37_fee_14 : decode cX37_fee 14 = .ok (.aload_n 0, 1) := dk_42 (dk_at dksX37_fee_0 14 rfl rfl)
theorem dX37_fee_15 : decode cX37_fee 15 = .ok (.getfield 30, 3) := dk_180 0 30 (dk_at dksX37_fee_0 15 rfl rfl)
theorem dX37_fee_18 : decode cX37_fee 18 = .ok (.iload_n 1, 1) := dk_27 (dk_at dksX37_fee_0 18 rfl rfl)
theorem dX37_fee_19 : decode cX37_fee 19 = .ok (.iconst 0, 1) := dk_3 (dk_at dksX37_fee_0 19 rfl rfl)
theorem dX37_fee_20 : decode cX37_fee 20 = .ok (.invokevirtual 320, 3) := dk_182 1 64 (dk_at dksX37_fee_0 20 rfl rfl)
theorem dX37_fee_23 : decode cX37_fee 23 = .ok (.lconst 0, 1) := dk_9 (dk_at dksX37_fee_0 23 rfl rfl)
theorem dX37_fee_24 : decode cX37_fee 24 = .ok (.lcmp, 1) := dk_148 (dk_at dksX37_fee_1 0 rfl rfl)
theorem dX37_fee_25 : decode cX37_fee 25 = .ok (.ifCond .ge 7, 3) := dk_156 0 7 (dk_at dksX37_fee_1 1 rfl rfl)
theorem dX37_fee_28 : decode cX37_fee 28 = .ok (.ldc2_w 139, 3) := dk_20 0 139 (dk_at dksX37_fee_1 4 rfl rfl)
theorem dX37_fee_31 : decode cX37_fee 31 = .ok (.lreturn, 1) := dk_173 (dk_at dksX37_fee_1 7 rfl rfl)
theorem dX37_fee_32 : decode cX37_fee 32 = .ok (.lconst 0, 1) := dk_9 (dk_at dksX37_fee_1 8 rfl rfl)
theorem dX37_fee_33 : decode cX37_fee 33 = .ok (.lstore 4, 2) := dk_55 4 (dk_at dksX37_fee_1 9 rfl rfl)
theorem dX37_fee_35 : decode cX37_fee 35 = .ok (.iconst 0, 1) := dk_3 (dk_at dksX37_fee_1 11 rfl rfl)
theorem dX37_fee_36 : decode cX37_fee 36 = .ok (.istore 6, 2) := dk_54 6 (dk_at dksX37_fee_1 12 rfl rfl)
theorem dX37_fee_38 : decode cX37_fee 38 = .ok (.iload 6, 2) := dk_21 6 (dk_at dksX37_fee_1 14 rfl rfl)
theorem dX37_fee_40 : decode cX37_fee 40 = .ok (.bipush 8, 2) := dk_16 8 (dk_at dksX37_fee_1 16 rfl rfl)
theorem dX37_fee_42 : decode cX37_fee 42 = .ok (.if_icmp .ge 56, 3) := dk_162 0 56 (dk_at dksX37_fee_1 18 rfl rfl)
theorem dX37_fee_45 : decode cX37_fee 45 = .ok (.aload_n 0, 1) := dk_42 (dk_at dksX37_fee_1 21 rfl rfl)
theorem dX37_fee_46 : decode cX37_fee 46 = .ok (.getfield 30, 3) := dk_180 0 30 (dk_at dksX37_fee_2 0 rfl rfl)
theorem dX37_fee_49 : decode cX37_fee 49 = .ok (.iload_n 1, 1) := dk_27 (dk_at dksX37_fee_2 3 rfl rfl)
theorem dX37_fee_50 : decode cX37_fee 50 = .ok (.iload 6, 2) := dk_21 6 (dk_at dksX37_fee_2 4 rfl rfl)
theorem dX37_fee_52 : decode cX37_fee 52 = .ok (.invokevirtual 320, 3) := dk_182 1 64 (dk_at dksX37_fee_2 6 rfl rfl)
theorem dX37_fee_55 : decode cX37_fee 55 = .ok (.lload_n 2, 1) := dk_32 (dk_at dksX37_fee_2 9 rfl rfl)
theorem dX37_fee_56 : decode cX37_fee 56 = .ok (.lmul, 1) := dk_105 (dk_at dksX37_fee_2 10 rfl rfl)
theorem dX37_fee_57 : decode cX37_fee 57 = .ok (.ldc2_w 227, 3) := dk_20 0 227 (dk_at dksX37_fee_2 11 rfl rfl)
theorem dX37_fee_60 : decode cX37_fee 60 = .ok (.ldiv, 1) := dk_109 (dk_at dksX37_fee_2 14 rfl rfl)
theorem dX37_fee_61 : decode cX37_fee 61 = .ok (.lstore 7, 2) := dk_55 7 (dk_at dksX37_fee_2 15 rfl rfl)
theorem dX37_fee_63 : decode cX37_fee 63 = .ok (.lload 7, 2) := dk_22 7 (dk_at dksX37_fee_2 17 rfl rfl)
theorem dX37_fee_65 : decode cX37_fee 65 = .ok (.lconst 0, 1) := dk_9 (dk_at dksX37_fee_2 19 rfl rfl)
theorem dX37_fee_66 : decode cX37_fee 66 = .ok (.lcmp, 1) := dk_148 (dk_at dksX37_fee_2 20 rfl rfl)
theorem dX37_fee_67 : decode cX37_fee 67 = .ok (.ifCond .le 25, 3) := dk_158 0 25 (dk_at dksX37_fee_2 21 rfl rfl)
theorem dX37_fee_70 : decode cX37_fee 70 = .ok (.aload_n 0, 1) := dk_42 (dk_at dksX37_fee_3 0 rfl rfl)
theorem dX37_fee_71 : decode cX37_fee 71 = .ok (.getfield 16, 3) := dk_180 0 16 (dk_at dksX37_fee_3 1 rfl rfl)
theorem dX37_fee_74 : decode cX37_fee 74 = .ok (.bipush 8, 2) := dk_16 8 (dk_at dksX37_fee_3 4 rfl rfl)
theorem dX37_fee_76 : decode cX37_fee 76 = .ok (.iload 6, 2) := dk_21 6 (dk_at dksX37_fee_3 6 rfl rfl)
theorem dX37_fee_78 : decode cX37_fee 78 = .ok (.iadd, 1) := dk_96 (dk_at dksX37_fee_3 8 rfl rfl)
theorem dX37_fee_79 : decode cX37_fee 79 = .ok (.iconst 4, 1) := dk_7 (dk_at dksX37_fee_3 9 rfl rfl)
theorem dX37_fee_80 : decode cX37_fee 80 = .ok (.lload 7, 2) := dk_22 7 (dk_at dksX37_fee_3 10 rfl rfl)
theorem dX37_fee_82 : decode cX37_fee 82 = .ok (.invokevirtual 220, 3) := dk_182 0 220 (dk_at dksX37_fee_3 12 rfl rfl)
theorem dX37_fee_85 : decode cX37_fee 85 = .ok (.lload 4, 2) := dk_22 4 (dk_at dksX37_fee_3 15 rfl rfl)
theorem dX37_fee_87 : decode cX37_fee 87 = .ok (.lload 7, 2) := dk_22 7 (dk_at dksX37_fee_3 17 rfl rfl)
theorem dX37_fee_89 : decode cX37_fee 89 = .ok (.ladd, 1) := dk_97 (dk_at dksX37_fee_3 19 rfl rfl)
theorem dX37_fee_90 : decode cX37_fee 90 = .ok (.lstore 4, 2) := dk_55 4 (dk_at dksX37_fee_3 20 rfl rfl)
theorem dX37_fee_92 : decode cX37_fee 92 = .ok (.iinc 6 1, 3) := dk_132 6 1 (dk_at dksX37_fee_4 0 rfl rfl)
theorem dX37_fee_95 : decode cX37_fee 95 = .ok (.goto (-57), 3) := dk_167 255 199 (dk_at dksX37_fee_4 3 rfl rfl)
theorem dX37_fee_98 : decode cX37_fee 98 = .ok (.lload 4, 2) := dk_22 4 (dk_at dksX37_fee_4 6 rfl rfl)
theorem dX37_fee_100 : decode cX37_fee 100 = .ok (.lreturn, 1) := dk_173 (dk_at dksX37_fee_4 8 rfl rfl)
abbrev cX37_entry : ByteArray := prog_24_method_12_code
def yX37_entry : MethodName := ⟨RX37, "entry", "(II)J"⟩
def dkwX37_entry_3 : List UInt8 := [182, 1, 87, 167, 0, 6, 20, 0, 139, 173]
abbrev dktX37_entry_3 : List UInt8 := dkwX37_entry_3 ++ []
def dkwX37_entry_2 : List UInt8 := [167, 0, 31, 28, 4, 160, 0, 11, 45, 182, 1, 84, 133, 167, 0, 18, 28, 5, 160, 0, 10, 45]
abbrev dktX37_entry_2 : List UInt8 := dkwX37_entry_2 ++ dktX37_entry_3
def dkwX37_entry_1 : List UInt8 := [180, 0, 16, 180, 1, 66, 27, 182, 1, 75, 192, 1, 79, 78, 28, 154, 0, 11, 45, 182, 1, 81, 133]
abbrev dktX37_entry_1 : List UInt8 := dkwX37_entry_1 ++ dktX37_entry_2
def dkwX37_entry_0 : List UInt8 := [27, 155, 0, 17, 27, 42, 180, 0, 16, 180, 1, 66, 182, 1, 70, 161, 0, 7, 20, 0, 139, 173, 42]
abbrev dktX37_entry_0 : List UInt8 := dkwX37_entry_0 ++ dktX37_entry_1
theorem dksX37_entry_0 : cX37_entry.data.toList.drop 0 = dktX37_entry_0 := by decide +kernel
theorem dksX37_entry_1 : cX37_entry.data.toList.drop 23 = dktX37_entry_1 := dk_seg dksX37_entry_0 23 rfl rfl
theorem dksX37_entry_2 : cX37_entry.data.toList.drop 46 = dktX37_entry_2 := dk_seg dksX37_entry_1 23 rfl rfl
theorem dksX37_entry_3 : cX37_entry.data.toList.drop 68 = dktX37_entry_3 := dk_seg dksX37_entry_2 22 rfl rfl
theorem dX37_entry_0 : decode cX37_entry 0 = .ok (.iload_n 1, 1) := dk_27 (dk_at dksX37_entry_0 0 rfl rfl)
theorem dX37_entry_1 : decode cX37_entry 1 = .ok (.ifCond .lt 17, 3) := dk_155 0 17 (dk_at dksX37_entry_0 1 rfl rfl)
theorem dX37_entry_4 : decode cX37_entry 4 = .ok (.iload_n 1, 1) := dk_27 (dk_at dksX37_entry_0 4 rfl rfl)
theorem dX37_entry_5 : decode cX37_entry 5 = .ok (.aload_n 0, 1) := dk_42 (dk_at dksX37_entry_0 5 rfl rfl)
theorem dX37_entry_6 : decode cX37_entry 6 = .ok (.getfield 16, 3) := dk_180 0 16 (dk_at dksX37_entry_0 6 rfl rfl)
theorem dX37_entry_9 : decode cX37_entry 9 = .ok (.getfield 322, 3) := dk_180 1 66 (dk_at dksX37_entry_0 9 rfl rfl)
theorem dX37_entry_12 : decode cX37_entry 12 = .ok (.invokevirtual 326, 3) := dk_182 1 70 (dk_at dksX37_entry_0 12 rfl rfl)
theorem dX37_entry_15 : decode cX37_entry 15 = .ok (.if_icmp .lt 7, 3) := dk_161 0 7 (dk_at dksX37_entry_0 15 rfl rfl)
theorem dX37_entry_18 : decode cX37_entry 18 = .ok (.ldc2_w 139, 3) := dk_20 0 139 (dk_at dksX37_entry_0 18 rfl rfl)
theorem dX37_entry_21 : decode cX37_entry 21 = .ok (.lreturn, 1) := dk_173 (dk_at dksX37_entry_0 21 rfl rfl)
theorem dX37_entry_22 : decode cX37_entry 22 = .ok (.aload_n 0, 1) := dk_42 (dk_at dksX37_entry_0 22 rfl rfl)
theorem dX37_entry_23 : decode cX37_entry 23 = .ok (.getfield 16, 3) := dk_180 0 16 (dk_at dksX37_entry_1 0 rfl rfl)
theorem dX37_entry_26 : decode cX37_entry 26 = .ok (.getfield 322, 3) := dk_180 1 66 (dk_at dksX37_entry_1 3 rfl rfl)
theorem dX37_entry_29 : decode cX37_entry 29 = .ok (.iload_n 1, 1) := dk_27 (dk_at dksX37_entry_1 6 rfl rfl)
theorem dX37_entry_30 : decode cX37_entry 30 = .ok (.invokevirtual 331, 3) := dk_182 1 75 (dk_at dksX37_entry_1 7 rfl rfl)
theorem dX37_entry_33 : decode cX37_entry 33 = .ok (.checkcast 335, 3) := dk_192 1 79 (dk_at dksX37_entry_1 10 rfl rfl)
theorem dX37_entry_36 : decode cX37_entry 36 = .ok (.astore_n 3, 1) := dk_78 (dk_at dksX37_entry_1 13 rfl rfl)
theorem dX37_entry_37 : decode cX37_entry 37 = .ok (.iload_n 2, 1) := dk_28 (dk_at dksX37_entry_1 14 rfl rfl)
theorem dX37_entry_38 : decode cX37_entry 38 = .ok (.ifCond .ne 11, 3) := dk_154 0 11 (dk_at dksX37_entry_1 15 rfl rfl)
theorem dX37_entry_41 : decode cX37_entry 41 = .ok (.aload_n 3, 1) := dk_45 (dk_at dksX37_entry_1 18 rfl rfl)
theorem dX37_entry_42 : decode cX37_entry 42 = .ok (.invokevirtual 337, 3) := dk_182 1 81 (dk_at dksX37_entry_1 19 rfl rfl)
theorem dX37_entry_45 : decode cX37_entry 45 = .ok (.i2l, 1) := dk_133 (dk_at dksX37_entry_1 22 rfl rfl)
theorem dX37_entry_46 : decode cX37_entry 46 = .ok (.goto 31, 3) := dk_167 0 31 (dk_at dksX37_entry_2 0 rfl rfl)
theorem dX37_entry_49 : decode cX37_entry 49 = .ok (.iload_n 2, 1) := dk_28 (dk_at dksX37_entry_2 3 rfl rfl)
theorem dX37_entry_50 : decode cX37_entry 50 = .ok (.iconst 1, 1) := dk_4 (dk_at dksX37_entry_2 4 rfl rfl)
theorem dX37_entry_51 : decode cX37_entry 51 = .ok (.if_icmp .ne 11, 3) := dk_160 0 11 (dk_at dksX37_entry_2 5 rfl rfl)
theorem dX37_entry_54 : decode cX37_entry 54 = .ok (.aload_n 3, 1) := dk_45 (dk_at dksX37_entry_2 8 rfl rfl)
theorem dX37_entry_55 : decode cX37_entry 55 = .ok (.invokevirtual 340, 3) := dk_182 1 84 (dk_at dksX37_entry_2 9 rfl rfl)
theorem dX37_entry_58 : decode cX37_entry 58 = .ok (.i2l, 1) := dk_133 (dk_at dksX37_entry_2 12 rfl rfl)
theorem dX37_entry_59 : decode cX37_entry 59 = .ok (.goto 18, 3) := dk_167 0 18 (dk_at dksX37_entry_2 13 rfl rfl)
theorem dX37_entry_62 : decode cX37_entry 62 = .ok (.iload_n 2, 1) := dk_28 (dk_at dksX37_entry_2 16 rfl rfl)
theorem dX37_entry_63 : decode cX37_entry 63 = .ok (.iconst 2, 1) := dk_5 (dk_at dksX37_entry_2 17 rfl rfl)
theorem dX37_entry_64 : decode cX37_entry 64 = .ok (.if_icmp .ne 10, 3) := dk_160 0 10 (dk_at dksX37_entry_2 18 rfl rfl)
theorem dX37_entry_67 : decode cX37_entry 67 = .ok (.aload_n 3, 1) := dk_45 (dk_at dksX37_entry_2 21 rfl rfl)
theorem dX37_entry_68 : decode cX37_entry 68 = .ok (.invokevirtual 343, 3) := dk_182 1 87 (dk_at dksX37_entry_3 0 rfl rfl)
theorem dX37_entry_71 : decode cX37_entry 71 = .ok (.goto 6, 3) := dk_167 0 6 (dk_at dksX37_entry_3 3 rfl rfl)
theorem dX37_entry_74 : decode cX37_entry 74 = .ok (.ldc2_w 139, 3) := dk_20 0 139 (dk_at dksX37_entry_3 6 rfl rfl)
theorem dX37_entry_77 : decode cX37_entry 77 = .ok (.lreturn, 1) := dk_173 (dk_at dksX37_entry_3 9 rfl rfl)
theorem q440 : (Jvm.Cond.initialized "WasteHouse$HouseRoom") ∈ lw_all := lw_g (lw_at lw_m1 48 rfl) rfl
theorem q832 : (Jvm.Cond.fieldLinkNest "WasteHouse$HouseRoom" (186 : Nat) "WasteHouse$ShareSolve" "kinds" "I" "WasteHouse") ∈ lw_tbl := lw_at lw_m2 200 rfl
theorem q834 : (Jvm.Cond.fieldLinkNest "WasteHouse$HouseRoom" (198 : Nat) "WasteHouse$ShareSolve" "ports" "I" "WasteHouse") ∈ lw_tbl := lw_at lw_m2 202 rfl
theorem q1234 : (Jvm.Cond.fieldLinkNest "WasteHouse$HouseRoom" (175 : Nat) "WasteHouse$RoundColumns" "loads" "[I" "WasteHouse") ∈ lw_tbl := lw_at lw_m4 122 rfl
theorem q1425 : (Jvm.Cond.fieldLink "WasteHouse$HouseRoom" (288 : Nat) "WasteHouse$PartGraphs$Part" "kind" "I") ∈ lw_all := lw_g (lw_at lw_m5 73 rfl) rfl
theorem q1428 : (Jvm.Cond.fieldLink "WasteHouse$HouseRoom" (296 : Nat) "WasteHouse$PartGraphs$Part" "grams" "I") ∈ lw_all := lw_g (lw_at lw_m5 76 rfl) rfl
theorem q1440 : (Jvm.Cond.fieldLink "WasteHouse$HouseRoom" (293 : Nat) "WasteHouse$PartGraphs$Part" "family" "I") ∈ lw_all := lw_g (lw_at lw_m5 88 rfl) rfl
theorem q1463 : (Jvm.Cond.fieldLink "WasteHouse$HouseRoom" (283 : Nat) "WasteHouse$PartGraphs$Product" "count" "I") ∈ lw_all := lw_g (lw_at lw_m5 111 rfl) rfl
theorem q1466 : (Jvm.Cond.fieldLink "WasteHouse$HouseRoom" (284 : Nat) "WasteHouse$PartGraphs$Product" "parts" "[LWasteHouse$PartGraphs$Part;") ∈ lw_all := lw_g (lw_at lw_m5 114 rfl) rfl
theorem q1500 : (Jvm.Cond.fieldLinkNest "WasteHouse$HouseRoom" (272 : Nat) "WasteHouse$PartGraphs" "product" "LWasteHouse$PartGraphs$Product;" "WasteHouse") ∈ lw_tbl := lw_at lw_m5 148 rfl
theorem q1665 : (Jvm.Cond.fieldLink "WasteHouse$HouseRoom" (248 : Nat) "WasteHouse$PurityOdds$Lot" "grams" "J") ∈ lw_all := lw_g (lw_at lw_m6 73 rfl) rfl
theorem q1716 : (Jvm.Cond.fieldLinkNest "WasteHouse$HouseRoom" (244 : Nat) "WasteHouse$PurityOdds" "lots" "[LWasteHouse$PurityOdds$Lot;" "WasteHouse") ∈ lw_tbl := lw_at lw_m6 124 rfl
theorem q1899 : (Jvm.Cond.instantiable "WasteHouse$HouseRoom" (16 : Nat)) ∈ lw_all := lw_g (lw_at lw_m7 67 rfl) rfl
theorem q1901 : (Jvm.Cond.instanceMethod ({ cls := "WasteHouse$HouseRoom", name := "<init>", desc := "(LWasteHouse$TicketChain;LWasteHouse$ShareSolve;LWasteHouse$HazardRules;LWasteHouse$RoundColumns;LWasteHouse$BarredStores;LWasteHouse$PartGraphs;LWasteHouse$ApartCost;LWasteHouse$PurityOdds;LWasteHouse$DepositCodes;)V" } : Jvm.MethodName)) ∈ lw_all := lw_g (lw_at lw_m7 69 rfl) rfl
theorem q1902 : (Jvm.Cond.code ({ cls := "WasteHouse$HouseRoom", name := "<init>", desc := "(LWasteHouse$TicketChain;LWasteHouse$ShareSolve;LWasteHouse$HazardRules;LWasteHouse$RoundColumns;LWasteHouse$BarredStores;LWasteHouse$PartGraphs;LWasteHouse$ApartCost;LWasteHouse$PurityOdds;LWasteHouse$DepositCodes;)V" } : Jvm.MethodName) prog_24_method_1_code (10 : Nat) (Option.none : Option Jvm.ClassFile.FieldType)) ∈ lw_all := lw_g (lw_at lw_m7 70 rfl) rfl
theorem q1903 : (Jvm.Cond.stringRef "WasteHouse$HouseRoom" (3 : Nat) "house") ∈ lw_tbl := lw_at lw_m7 71 rfl
theorem q1904 : (Jvm.Cond.methodLink "WasteHouse$HouseRoom" (5 : Nat) ({ cls := "WasteHouse$Room", name := "<init>", desc := "(Ljava/lang/String;)V" } : Jvm.MethodName)) ∈ lw_all := lw_g (lw_at lw_m7 72 rfl) rfl
theorem q1910 : (Jvm.Cond.classLink "WasteHouse$HouseRoom" (11 : Nat) "WasteHouse$Ledger") ∈ lw_all := lw_g (lw_at lw_m7 78 rfl) rfl
theorem q1912 : (Jvm.Cond.methodLinkNest "WasteHouse$HouseRoom" (13 : Nat) ({ cls := "WasteHouse$Ledger", name := "<init>", desc := "()V" } : Jvm.MethodName) "WasteHouse") ∈ lw_tbl := lw_at lw_m7 80 rfl
theorem q1919 : (Jvm.Cond.fieldLink "WasteHouse$HouseRoom" (130 : Nat) "WasteHouse$Ledger" "balances" "[J") ∈ lw_all := lw_g (lw_at lw_m7 87 rfl) rfl
theorem q1922 : (Jvm.Cond.fieldLink "WasteHouse$HouseRoom" (322 : Nat) "WasteHouse$Ledger" "first" "Ljava/util/ArrayList;") ∈ lw_all := lw_g (lw_at lw_m7 90 rfl) rfl
theorem q1924 : (Jvm.Cond.fieldLink "WasteHouse$HouseRoom" (133 : Nat) "WasteHouse$Ledger" "count" "I") ∈ lw_all := lw_g (lw_at lw_m7 92 rfl) rfl
theorem q1932 : (Jvm.Cond.stringRef "WasteHouse$HouseRoom" (66 : Nat) "bring") ∈ lw_tbl := lw_at lw_m7 100 rfl
theorem q1933 : (Jvm.Cond.stringRef "WasteHouse$HouseRoom" (68 : Nat) "iiili") ∈ lw_tbl := lw_at lw_m7 101 rfl
theorem q1934 : (Jvm.Cond.methodLink "WasteHouse$HouseRoom" (70 : Nat) ({ cls := "WasteHouse$HouseRoom", name := "add", desc := "(Ljava/lang/String;Ljava/lang/String;)V" } : Jvm.MethodName)) ∈ lw_all := lw_g (lw_at lw_m7 102 rfl) rfl
theorem q1935 : (Jvm.Cond.sameMethod "WasteHouse$HouseRoom" "WasteHouse$Room" "add" "(Ljava/lang/String;Ljava/lang/String;)V") ∈ lw_all := lw_g (lw_at lw_m7 103 rfl) rfl
theorem q1937 : (Jvm.Cond.selects "WasteHouse$HouseRoom" ({ cls := "WasteHouse$HouseRoom", name := "add", desc := "(Ljava/lang/String;Ljava/lang/String;)V" } : Jvm.MethodName) ({ cls := "WasteHouse$Room", name := "add", desc := "(Ljava/lang/String;Ljava/lang/String;)V" } : Jvm.MethodName)) ∈ lw_all := lw_g (lw_at lw_m7 105 rfl) rfl
theorem q1994 : (Jvm.Cond.selects "WasteHouse$HouseRoom" ({ cls := "java/lang/Object", name := "getClass", desc := "()Ljava/lang/Class;" } : Jvm.MethodName) ({ cls := "java/lang/Object", name := "getClass", desc := "()Ljava/lang/Class;" } : Jvm.MethodName)) ∈ lw_all := lw_g (lw_at lw_m7 162 rfl) rfl
theorem q2073 : (Jvm.Cond.stringRef "WasteHouse$HouseRoom" (74 : Nat) "sort") ∈ lw_tbl := lw_at lw_m8 1 rfl
theorem q2074 : (Jvm.Cond.stringRef "WasteHouse$HouseRoom" (76 : Nat) "") ∈ lw_tbl := lw_at lw_m8 2 rfl
theorem q2075 : (Jvm.Cond.stringRef "WasteHouse$HouseRoom" (78 : Nat) "sell") ∈ lw_tbl := lw_at lw_m8 3 rfl
theorem q2076 : (Jvm.Cond.stringRef "WasteHouse$HouseRoom" (80 : Nat) "i") ∈ lw_tbl := lw_at lw_m8 4 rfl
theorem q2077 : (Jvm.Cond.stringRef "WasteHouse$HouseRoom" (82 : Nat) "class") ∈ lw_tbl := lw_at lw_m8 5 rfl
theorem q2078 : (Jvm.Cond.stringRef "WasteHouse$HouseRoom" (84 : Nat) "il") ∈ lw_tbl := lw_at lw_m8 6 rfl
theorem q2079 : (Jvm.Cond.stringRef "WasteHouse$HouseRoom" (86 : Nat) "keep") ∈ lw_tbl := lw_at lw_m8 7 rfl
theorem q2080 : (Jvm.Cond.stringRef "WasteHouse$HouseRoom" (88 : Nat) "ii") ∈ lw_tbl := lw_at lw_m8 8 rfl
theorem q2081 : (Jvm.Cond.stringRef "WasteHouse$HouseRoom" (90 : Nat) "undo") ∈ lw_tbl := lw_at lw_m8 9 rfl
theorem q2082 : (Jvm.Cond.stringRef "WasteHouse$HouseRoom" (92 : Nat) "refund") ∈ lw_tbl := lw_at lw_m8 10 rfl
theorem q2083 : (Jvm.Cond.stringRef "WasteHouse$HouseRoom" (94 : Nat) "iliil") ∈ lw_tbl := lw_at lw_m8 11 rfl
theorem q2084 : (Jvm.Cond.stringRef "WasteHouse$HouseRoom" (96 : Nat) "fee") ∈ lw_tbl := lw_at lw_m8 12 rfl
theorem q2085 : (Jvm.Cond.stringRef "WasteHouse$HouseRoom" (98 : Nat) "account") ∈ lw_tbl := lw_at lw_m8 13 rfl
theorem q2086 : (Jvm.Cond.stringRef "WasteHouse$HouseRoom" (100 : Nat) "entries") ∈ lw_tbl := lw_at lw_m8 14 rfl
theorem q2087 : (Jvm.Cond.stringRef "WasteHouse$HouseRoom" (102 : Nat) "entry") ∈ lw_tbl := lw_at lw_m8 15 rfl
theorem q2088 : (Jvm.Cond.stringRef "WasteHouse$HouseRoom" (104 : Nat) "brought") ∈ lw_tbl := lw_at lw_m8 16 rfl
theorem q2089 : (Jvm.Cond.stringRef "WasteHouse$HouseRoom" (105 : Nat) "sound") ∈ lw_tbl := lw_at lw_m8 17 rfl
theorem q2090 : (Jvm.Cond.fieldLink "WasteHouse$HouseRoom" (30 : Nat) "WasteHouse$HouseRoom" "chain" "LWasteHouse$TicketChain;") ∈ lw_all := lw_g (lw_at lw_m8 18 rfl) rfl
theorem q2091 : (Jvm.Cond.fieldLink "WasteHouse$HouseRoom" (34 : Nat) "WasteHouse$HouseRoom" "line" "LWasteHouse$ShareSolve;") ∈ lw_all := lw_g (lw_at lw_m8 19 rfl) rfl
theorem q2092 : (Jvm.Cond.fieldLink "WasteHouse$HouseRoom" (38 : Nat) "WasteHouse$HouseRoom" "rules" "LWasteHouse$HazardRules;") ∈ lw_all := lw_g (lw_at lw_m8 20 rfl) rfl
theorem q2093 : (Jvm.Cond.fieldLink "WasteHouse$HouseRoom" (42 : Nat) "WasteHouse$HouseRoom" "rounds" "LWasteHouse$RoundColumns;") ∈ lw_all := lw_g (lw_at lw_m8 21 rfl) rfl
theorem q2094 : (Jvm.Cond.fieldLink "WasteHouse$HouseRoom" (46 : Nat) "WasteHouse$HouseRoom" "store" "LWasteHouse$BarredStores;") ∈ lw_all := lw_g (lw_at lw_m8 22 rfl) rfl
theorem q2095 : (Jvm.Cond.fieldLink "WasteHouse$HouseRoom" (50 : Nat) "WasteHouse$HouseRoom" "graph" "LWasteHouse$PartGraphs;") ∈ lw_all := lw_g (lw_at lw_m8 23 rfl) rfl
theorem q2096 : (Jvm.Cond.fieldLink "WasteHouse$HouseRoom" (54 : Nat) "WasteHouse$HouseRoom" "apart" "LWasteHouse$ApartCost;") ∈ lw_all := lw_g (lw_at lw_m8 24 rfl) rfl
theorem q2097 : (Jvm.Cond.fieldLink "WasteHouse$HouseRoom" (58 : Nat) "WasteHouse$HouseRoom" "samples" "LWasteHouse$PurityOdds;") ∈ lw_all := lw_g (lw_at lw_m8 25 rfl) rfl
theorem q2098 : (Jvm.Cond.fieldLink "WasteHouse$HouseRoom" (62 : Nat) "WasteHouse$HouseRoom" "codes" "LWasteHouse$DepositCodes;") ∈ lw_all := lw_g (lw_at lw_m8 26 rfl) rfl
theorem q2099 : (Jvm.Cond.fieldLink "WasteHouse$HouseRoom" (16 : Nat) "WasteHouse$HouseRoom" "ledger" "LWasteHouse$Ledger;") ∈ lw_all := lw_g (lw_at lw_m8 27 rfl) rfl
theorem q2101 : (Jvm.Cond.fieldLink "WasteHouse$HouseRoom" (22 : Nat) "WasteHouse$HouseRoom" "brought" "[J") ∈ lw_all := lw_g (lw_at lw_m8 29 rfl) rfl
theorem q2102 : (Jvm.Cond.fieldLink "WasteHouse$HouseRoom" (217 : Nat) "WasteHouse$HouseRoom" "sold" "I") ∈ lw_all := lw_g (lw_at lw_m8 30 rfl) rfl
theorem q2103 : (Jvm.Cond.fieldLink "WasteHouse$HouseRoom" (26 : Nat) "WasteHouse$HouseRoom" "actOf" "[I") ∈ lw_all := lw_g (lw_at lw_m8 31 rfl) rfl
theorem q2108 : (Jvm.Cond.laysFinal "WasteHouse$HouseRoom" "WasteHouse$HouseRoom" "chain" "LWasteHouse$TicketChain;") ∈ lw_all := lw_g (lw_at lw_m8 36 rfl) rfl
theorem q2109 : (Jvm.Cond.soleField "WasteHouse$HouseRoom" "chain") ∈ lw_all := lw_g (lw_at lw_m8 37 rfl) rfl
theorem q2110 : (Jvm.Cond.laysFinal "WasteHouse$HouseRoom" "WasteHouse$HouseRoom" "line" "LWasteHouse$ShareSolve;") ∈ lw_all := lw_g (lw_at lw_m8 38 rfl) rfl
theorem q2111 : (Jvm.Cond.soleField "WasteHouse$HouseRoom" "line") ∈ lw_all := lw_g (lw_at lw_m8 39 rfl) rfl
theorem q2112 : (Jvm.Cond.laysFinal "WasteHouse$HouseRoom" "WasteHouse$HouseRoom" "rules" "LWasteHouse$HazardRules;") ∈ lw_all := lw_g (lw_at lw_m8 40 rfl) rfl
theorem q2113 : (Jvm.Cond.soleField "WasteHouse$HouseRoom" "rules") ∈ lw_all := lw_g (lw_at lw_m8 41 rfl) rfl
theorem q2114 : (Jvm.Cond.laysFinal "WasteHouse$HouseRoom" "WasteHouse$HouseRoom" "rounds" "LWasteHouse$RoundColumns;") ∈ lw_all := lw_g (lw_at lw_m8 42 rfl) rfl
theorem q2115 : (Jvm.Cond.soleField "WasteHouse$HouseRoom" "rounds") ∈ lw_all := lw_g (lw_at lw_m8 43 rfl) rfl
theorem q2116 : (Jvm.Cond.laysFinal "WasteHouse$HouseRoom" "WasteHouse$HouseRoom" "store" "LWasteHouse$BarredStores;") ∈ lw_all := lw_g (lw_at lw_m8 44 rfl) rfl
theorem q2117 : (Jvm.Cond.soleField "WasteHouse$HouseRoom" "store") ∈ lw_all := lw_g (lw_at lw_m8 45 rfl) rfl
theorem q2118 : (Jvm.Cond.laysFinal "WasteHouse$HouseRoom" "WasteHouse$HouseRoom" "graph" "LWasteHouse$PartGraphs;") ∈ lw_all := lw_g (lw_at lw_m8 46 rfl) rfl
theorem q2119 : (Jvm.Cond.soleField "WasteHouse$HouseRoom" "graph") ∈ lw_all := lw_g (lw_at lw_m8 47 rfl) rfl
theorem q2120 : (Jvm.Cond.laysFinal "WasteHouse$HouseRoom" "WasteHouse$HouseRoom" "apart" "LWasteHouse$ApartCost;") ∈ lw_all := lw_g (lw_at lw_m8 48 rfl) rfl
theorem q2121 : (Jvm.Cond.soleField "WasteHouse$HouseRoom" "apart") ∈ lw_all := lw_g (lw_at lw_m8 49 rfl) rfl
theorem q2122 : (Jvm.Cond.laysFinal "WasteHouse$HouseRoom" "WasteHouse$HouseRoom" "samples" "LWasteHouse$PurityOdds;") ∈ lw_all := lw_g (lw_at lw_m8 50 rfl) rfl
theorem q2123 : (Jvm.Cond.soleField "WasteHouse$HouseRoom" "samples") ∈ lw_all := lw_g (lw_at lw_m8 51 rfl) rfl
theorem q2124 : (Jvm.Cond.laysFinal "WasteHouse$HouseRoom" "WasteHouse$HouseRoom" "codes" "LWasteHouse$DepositCodes;") ∈ lw_all := lw_g (lw_at lw_m8 52 rfl) rfl
theorem q2125 : (Jvm.Cond.soleField "WasteHouse$HouseRoom" "codes") ∈ lw_all := lw_g (lw_at lw_m8 53 rfl) rfl
theorem q2126 : (Jvm.Cond.laysFinal "WasteHouse$HouseRoom" "WasteHouse$HouseRoom" "ledger" "LWasteHouse$Ledger;") ∈ lw_all := lw_g (lw_at lw_m8 54 rfl) rfl
theorem q2127 : (Jvm.Cond.soleField "WasteHouse$HouseRoom" "ledger") ∈ lw_all := lw_g (lw_at lw_m8 55 rfl) rfl
theorem q2128 : (Jvm.Cond.laysFinal "WasteHouse$HouseRoom" "WasteHouse$HouseRoom" "brought" "[J") ∈ lw_all := lw_g (lw_at lw_m8 56 rfl) rfl
theorem q2129 : (Jvm.Cond.soleField "WasteHouse$HouseRoom" "brought") ∈ lw_all := lw_g (lw_at lw_m8 57 rfl) rfl
theorem q2130 : (Jvm.Cond.lays "WasteHouse$HouseRoom" "WasteHouse$HouseRoom" "sold" "I") ∈ lw_all := lw_g (lw_at lw_m8 58 rfl) rfl
theorem q2131 : (Jvm.Cond.soleField "WasteHouse$HouseRoom" "sold") ∈ lw_all := lw_g (lw_at lw_m8 59 rfl) rfl
theorem q2132 : (Jvm.Cond.laysFinal "WasteHouse$HouseRoom" "WasteHouse$HouseRoom" "actOf" "[I") ∈ lw_all := lw_g (lw_at lw_m8 60 rfl) rfl
theorem q2133 : (Jvm.Cond.soleField "WasteHouse$HouseRoom" "actOf") ∈ lw_all := lw_g (lw_at lw_m8 61 rfl) rfl
theorem q2134 : (Jvm.Cond.laysFinal "WasteHouse$HouseRoom" "WasteHouse$Room" "name" "Ljava/lang/String;") ∈ lw_all := lw_g (lw_at lw_m8 62 rfl) rfl
theorem q2136 : (Jvm.Cond.laysFinal "WasteHouse$HouseRoom" "WasteHouse$Room" "words" "Ljava/util/ArrayList;") ∈ lw_all := lw_g (lw_at lw_m8 64 rfl) rfl
theorem q2138 : (Jvm.Cond.laysFinal "WasteHouse$HouseRoom" "WasteHouse$Room" "needs" "Ljava/util/ArrayList;") ∈ lw_all := lw_g (lw_at lw_m8 66 rfl) rfl
theorem q2140 : (Jvm.Cond.superclass "WasteHouse$HouseRoom" "WasteHouse$Room") ∈ lw_all := lw_g (lw_at lw_m8 68 rfl) rfl
theorem q3060 : (Jvm.Cond.selects "WasteHouse$HouseRoom" ({ cls := "WasteHouse$Room", name := "find", desc := "(Ljava/lang/String;)I" } : Jvm.MethodName) ({ cls := "WasteHouse$Room", name := "find", desc := "(Ljava/lang/String;)I" } : Jvm.MethodName)) ∈ lw_all := lw_g (lw_at lw_m12 28 rfl) rfl
theorem q3104 : (Jvm.Cond.selects "WasteHouse$HouseRoom" ({ cls := "java/lang/Object", name := "equals", desc := "(Ljava/lang/Object;)Z" } : Jvm.MethodName) ({ cls := "java/lang/Object", name := "equals", desc := "(Ljava/lang/Object;)Z" } : Jvm.MethodName)) ∈ lw_all := lw_g (lw_at lw_m12 72 rfl) rfl
theorem q3174 : (Jvm.Cond.selects "WasteHouse$HouseRoom" ({ cls := "WasteHouse$Room", name := "need", desc := "(I)Ljava/lang/String;" } : Jvm.MethodName) ({ cls := "WasteHouse$Room", name := "need", desc := "(I)Ljava/lang/String;" } : Jvm.MethodName)) ∈ lw_all := lw_g (lw_at lw_m12 142 rfl) rfl
theorem q3622 : (Jvm.Cond.selects "WasteHouse$HouseRoom" ({ cls := "java/lang/Object", name := "hashCode", desc := "()I" } : Jvm.MethodName) ({ cls := "java/lang/Object", name := "hashCode", desc := "()I" } : Jvm.MethodName)) ∈ lw_all := lw_g (lw_at lw_m14 110 rfl) rfl
theorem q5049 : (Jvm.Cond.selects "WasteHouse$HouseRoom" ({ cls := "WasteHouse$Room", name := "call", desc := "(I[J)J" } : Jvm.MethodName) ({ cls := "WasteHouse$HouseRoom", name := "call", desc := "(I[J)J" } : Jvm.MethodName)) ∈ lw_all := lw_g (lw_at lw_m20 97 rfl) rfl
theorem q5050 : (Jvm.Cond.instanceMethod ({ cls := "WasteHouse$HouseRoom", name := "call", desc := "(I[J)J" } : Jvm.MethodName)) ∈ lw_all := lw_g (lw_at lw_m20 98 rfl) rfl
theorem q5051 : (Jvm.Cond.code ({ cls := "WasteHouse$HouseRoom", name := "call", desc := "(I[J)J" } : Jvm.MethodName) prog_24_method_2_code (5 : Nat) (Option.some Jvm.ClassFile.FieldType.long)) ∈ lw_all := lw_g (lw_at lw_m20 99 rfl) rfl
theorem q5052 : (Jvm.Cond.methodLink "WasteHouse$HouseRoom" (107 : Nat) ({ cls := "WasteHouse$HouseRoom", name := "bring", desc := "(IIIJI)J" } : Jvm.MethodName)) ∈ lw_all := lw_g (lw_at lw_m20 100 rfl) rfl
theorem q5053 : (Jvm.Cond.privateMethod ({ cls := "WasteHouse$HouseRoom", name := "bring", desc := "(IIIJI)J" } : Jvm.MethodName)) ∈ lw_tbl := lw_at lw_m20 101 rfl
theorem q5054 : (Jvm.Cond.instanceMethod ({ cls := "WasteHouse$HouseRoom", name := "bring", desc := "(IIIJI)J" } : Jvm.MethodName)) ∈ lw_all := lw_g (lw_at lw_m20 102 rfl) rfl
theorem q5055 : (Jvm.Cond.code ({ cls := "WasteHouse$HouseRoom", name := "bring", desc := "(IIIJI)J" } : Jvm.MethodName) prog_24_method_3_code (12 : Nat) (Option.some Jvm.ClassFile.FieldType.long)) ∈ lw_all := lw_g (lw_at lw_m20 103 rfl) rfl
theorem q5056 : (Jvm.Cond.methodLinkNest "WasteHouse$HouseRoom" (160 : Nat) ({ cls := "WasteHouse$RoundColumns", name := "isColumn", desc := "(I)Z" } : Jvm.MethodName) "WasteHouse") ∈ lw_tbl := lw_at lw_m20 104 rfl
theorem q5060 : (Jvm.Cond.constantLong "WasteHouse$HouseRoom" (166 : Nat) (86400 : Int64)) ∈ lw_all := lw_g (lw_at lw_m20 108 rfl) rfl
theorem q5061 : (Jvm.Cond.constantLong "WasteHouse$HouseRoom" (170 : Nat) (2147483647 : Int64)) ∈ lw_all := lw_g (lw_at lw_m20 109 rfl) rfl
theorem q5062 : (Jvm.Cond.methodLinkNest "WasteHouse$HouseRoom" (172 : Nat) ({ cls := "WasteHouse$TicketChain", name := "tareOf", desc := "(II)J" } : Jvm.MethodName) "WasteHouse") ∈ lw_tbl := lw_at lw_m20 110 rfl
theorem q5101 : (Jvm.Cond.constantLong "WasteHouse$HouseRoom" (139 : Nat) (-1 : Int64)) ∈ lw_all := lw_g (lw_at lw_m20 149 rfl) rfl
theorem q5102 : (Jvm.Cond.methodLink "WasteHouse$HouseRoom" (178 : Nat) ({ cls := "WasteHouse$TicketChain", name := "ticket", desc := "(IIJJJI)I" } : Jvm.MethodName)) ∈ lw_all := lw_g (lw_at lw_m20 150 rfl) rfl
theorem q5219 : (Jvm.Cond.methodLink "WasteHouse$HouseRoom" (182 : Nat) ({ cls := "WasteHouse$HouseRoom", name := "feed", desc := "(I)V" } : Jvm.MethodName)) ∈ lw_all := lw_g (lw_at lw_m21 27 rfl) rfl
theorem q5220 : (Jvm.Cond.privateMethod ({ cls := "WasteHouse$HouseRoom", name := "feed", desc := "(I)V" } : Jvm.MethodName)) ∈ lw_tbl := lw_at lw_m21 28 rfl
theorem q5221 : (Jvm.Cond.instanceMethod ({ cls := "WasteHouse$HouseRoom", name := "feed", desc := "(I)V" } : Jvm.MethodName)) ∈ lw_all := lw_g (lw_at lw_m21 29 rfl) rfl
theorem q5222 : (Jvm.Cond.code ({ cls := "WasteHouse$HouseRoom", name := "feed", desc := "(I)V" } : Jvm.MethodName) prog_24_method_4_code (2 : Nat) (Option.none : Option Jvm.ClassFile.FieldType)) ∈ lw_all := lw_g (lw_at lw_m21 30 rfl) rfl
theorem q5223 : (Jvm.Cond.methodLink "WasteHouse$HouseRoom" (191 : Nat) ({ cls := "WasteHouse$ShareSolve", name := "feed", desc := "(IIJ)Z" } : Jvm.MethodName)) ∈ lw_all := lw_g (lw_at lw_m21 31 rfl) rfl
theorem q5236 : (Jvm.Cond.methodLink "WasteHouse$HouseRoom" (110 : Nat) ({ cls := "WasteHouse$HouseRoom", name := "sort", desc := "()J" } : Jvm.MethodName)) ∈ lw_all := lw_g (lw_at lw_m21 44 rfl) rfl
theorem q5237 : (Jvm.Cond.privateMethod ({ cls := "WasteHouse$HouseRoom", name := "sort", desc := "()J" } : Jvm.MethodName)) ∈ lw_tbl := lw_at lw_m21 45 rfl
theorem q5238 : (Jvm.Cond.instanceMethod ({ cls := "WasteHouse$HouseRoom", name := "sort", desc := "()J" } : Jvm.MethodName)) ∈ lw_all := lw_g (lw_at lw_m21 46 rfl) rfl
theorem q5239 : (Jvm.Cond.code ({ cls := "WasteHouse$HouseRoom", name := "sort", desc := "()J" } : Jvm.MethodName) prog_24_method_5_code (7 : Nat) (Option.some Jvm.ClassFile.FieldType.long)) ∈ lw_all := lw_g (lw_at lw_m21 47 rfl) rfl
theorem q5240 : (Jvm.Cond.methodLink "WasteHouse$HouseRoom" (194 : Nat) ({ cls := "WasteHouse$ShareSolve", name := "solve", desc := "()I" } : Jvm.MethodName)) ∈ lw_all := lw_g (lw_at lw_m21 48 rfl) rfl
theorem q5379 : (Jvm.Cond.methodLink "WasteHouse$HouseRoom" (201 : Nat) ({ cls := "WasteHouse$ShareSolve", name := "out", desc := "(III)J" } : Jvm.MethodName)) ∈ lw_all := lw_g (lw_at lw_m21 187 rfl) rfl
theorem q5398 : (Jvm.Cond.methodLink "WasteHouse$HouseRoom" (205 : Nat) ({ cls := "WasteHouse$PurityOdds", name := "lot", desc := "(J)I" } : Jvm.MethodName)) ∈ lw_all := lw_g (lw_at lw_m21 206 rfl) rfl
theorem q5413 : (Jvm.Cond.methodLink "WasteHouse$HouseRoom" (211 : Nat) ({ cls := "WasteHouse$PurityOdds", name := "piece", desc := "(IIJ)Z" } : Jvm.MethodName)) ∈ lw_all := lw_g (lw_at lw_m21 221 rfl) rfl
theorem q5423 : (Jvm.Cond.methodLink "WasteHouse$HouseRoom" (113 : Nat) ({ cls := "WasteHouse$HouseRoom", name := "sell", desc := "(I)J" } : Jvm.MethodName)) ∈ lw_all := lw_g (lw_at lw_m21 231 rfl) rfl
theorem q5424 : (Jvm.Cond.privateMethod ({ cls := "WasteHouse$HouseRoom", name := "sell", desc := "(I)J" } : Jvm.MethodName)) ∈ lw_tbl := lw_at lw_m21 232 rfl
theorem q5425 : (Jvm.Cond.instanceMethod ({ cls := "WasteHouse$HouseRoom", name := "sell", desc := "(I)J" } : Jvm.MethodName)) ∈ lw_all := lw_g (lw_at lw_m21 233 rfl) rfl
theorem q5426 : (Jvm.Cond.code ({ cls := "WasteHouse$HouseRoom", name := "sell", desc := "(I)J" } : Jvm.MethodName) prog_24_method_6_code (4 : Nat) (Option.some Jvm.ClassFile.FieldType.long)) ∈ lw_all := lw_g (lw_at lw_m21 234 rfl) rfl
theorem q5427 : (Jvm.Cond.methodLink "WasteHouse$HouseRoom" (214 : Nat) ({ cls := "WasteHouse$PurityOdds", name := "price", desc := "(I)J" } : Jvm.MethodName)) ∈ lw_all := lw_g (lw_at lw_m21 235 rfl) rfl
theorem q5456 : (Jvm.Cond.methodLink "WasteHouse$HouseRoom" (220 : Nat) ({ cls := "WasteHouse$Ledger", name := "book", desc := "(IIJ)V" } : Jvm.MethodName)) ∈ lw_all := lw_g (lw_at lw_m22 24 rfl) rfl
theorem q5477 : (Jvm.Cond.methodLink "WasteHouse$HouseRoom" (116 : Nat) ({ cls := "WasteHouse$HouseRoom", name := "classOf", desc := "(IJ)J" } : Jvm.MethodName)) ∈ lw_all := lw_g (lw_at lw_m22 45 rfl) rfl
theorem q5478 : (Jvm.Cond.privateMethod ({ cls := "WasteHouse$HouseRoom", name := "classOf", desc := "(IJ)J" } : Jvm.MethodName)) ∈ lw_tbl := lw_at lw_m22 46 rfl
theorem q5479 : (Jvm.Cond.instanceMethod ({ cls := "WasteHouse$HouseRoom", name := "classOf", desc := "(IJ)J" } : Jvm.MethodName)) ∈ lw_all := lw_g (lw_at lw_m22 47 rfl) rfl
theorem q5480 : (Jvm.Cond.code ({ cls := "WasteHouse$HouseRoom", name := "classOf", desc := "(IJ)J" } : Jvm.MethodName) prog_24_method_7_code (9 : Nat) (Option.some Jvm.ClassFile.FieldType.long)) ∈ lw_all := lw_g (lw_at lw_m22 48 rfl) rfl
theorem q5481 : (Jvm.Cond.methodLink "WasteHouse$HouseRoom" (224 : Nat) ({ cls := "WasteHouse$PurityOdds", name := "share", desc := "(III)J" } : Jvm.MethodName)) ∈ lw_all := lw_g (lw_at lw_m22 49 rfl) rfl
theorem q5490 : (Jvm.Cond.constantLong "WasteHouse$HouseRoom" (227 : Nat) (1000 : Int64)) ∈ lw_all := lw_g (lw_at lw_m22 58 rfl) rfl
theorem q5491 : (Jvm.Cond.methodLink "WasteHouse$HouseRoom" (229 : Nat) ({ cls := "WasteHouse$HazardRules", name := "part", desc := "(IJJ)Z" } : Jvm.MethodName)) ∈ lw_all := lw_g (lw_at lw_m22 59 rfl) rfl
theorem q5492 : (Jvm.Cond.methodLink "WasteHouse$HouseRoom" (235 : Nat) ({ cls := "WasteHouse$HazardRules", name := "run", desc := "(J)I" } : Jvm.MethodName)) ∈ lw_all := lw_g (lw_at lw_m22 60 rfl) rfl
theorem q5493 : (Jvm.Cond.methodLink "WasteHouse$HouseRoom" (238 : Nat) ({ cls := "WasteHouse$HazardRules", name := "moving", desc := "()I" } : Jvm.MethodName)) ∈ lw_all := lw_g (lw_at lw_m22 61 rfl) rfl
theorem q5494 : (Jvm.Cond.methodLink "WasteHouse$HouseRoom" (120 : Nat) ({ cls := "WasteHouse$HouseRoom", name := "keep", desc := "(II)J" } : Jvm.MethodName)) ∈ lw_all := lw_g (lw_at lw_m22 62 rfl) rfl
theorem q5495 : (Jvm.Cond.privateMethod ({ cls := "WasteHouse$HouseRoom", name := "keep", desc := "(II)J" } : Jvm.MethodName)) ∈ lw_tbl := lw_at lw_m22 63 rfl
theorem q5496 : (Jvm.Cond.instanceMethod ({ cls := "WasteHouse$HouseRoom", name := "keep", desc := "(II)J" } : Jvm.MethodName)) ∈ lw_all := lw_g (lw_at lw_m22 64 rfl) rfl
theorem q5497 : (Jvm.Cond.code ({ cls := "WasteHouse$HouseRoom", name := "keep", desc := "(II)J" } : Jvm.MethodName) prog_24_method_8_code (7 : Nat) (Option.some Jvm.ClassFile.FieldType.long)) ∈ lw_all := lw_g (lw_at lw_m22 65 rfl) rfl
theorem q5498 : (Jvm.Cond.methodLinkNest "WasteHouse$HouseRoom" (241 : Nat) ({ cls := "WasteHouse$PurityOdds", name := "isLot", desc := "(I)Z" } : Jvm.MethodName) "WasteHouse") ∈ lw_tbl := lw_at lw_m22 66 rfl
theorem q5499 : (Jvm.Cond.constantLong "WasteHouse$HouseRoom" (254 : Nat) (100000000 : Int64)) ∈ lw_all := lw_g (lw_at lw_m22 67 rfl) rfl
theorem q5500 : (Jvm.Cond.methodLink "WasteHouse$HouseRoom" (256 : Nat) ({ cls := "java/lang/Math", name := "min", desc := "(JJ)J" } : Jvm.MethodName)) ∈ lw_all := lw_g (lw_at lw_m22 68 rfl) rfl
theorem q5501 : (Jvm.Cond.constantLong "WasteHouse$HouseRoom" (262 : Nat) (100000 : Int64)) ∈ lw_all := lw_g (lw_at lw_m22 69 rfl) rfl
theorem q5502 : (Jvm.Cond.methodLink "WasteHouse$HouseRoom" (264 : Nat) ({ cls := "WasteHouse$BarredStores", name := "load", desc := "(IJJ)I" } : Jvm.MethodName)) ∈ lw_all := lw_g (lw_at lw_m22 70 rfl) rfl
theorem q5514 : (Jvm.Cond.methodLink "WasteHouse$HouseRoom" (268 : Nat) ({ cls := "WasteHouse$BarredStores", name := "put", desc := "(II)I" } : Jvm.MethodName)) ∈ lw_all := lw_g (lw_at lw_m22 82 rfl) rfl
theorem q5569 : (Jvm.Cond.methodLink "WasteHouse$HouseRoom" (123 : Nat) ({ cls := "WasteHouse$HouseRoom", name := "undo", desc := "()J" } : Jvm.MethodName)) ∈ lw_all := lw_g (lw_at lw_m22 137 rfl) rfl
theorem q5570 : (Jvm.Cond.privateMethod ({ cls := "WasteHouse$HouseRoom", name := "undo", desc := "()J" } : Jvm.MethodName)) ∈ lw_tbl := lw_at lw_m22 138 rfl
theorem q5571 : (Jvm.Cond.instanceMethod ({ cls := "WasteHouse$HouseRoom", name := "undo", desc := "()J" } : Jvm.MethodName)) ∈ lw_all := lw_g (lw_at lw_m22 139 rfl) rfl
theorem q5572 : (Jvm.Cond.code ({ cls := "WasteHouse$HouseRoom", name := "undo", desc := "()J" } : Jvm.MethodName) prog_24_method_9_code (6 : Nat) (Option.some Jvm.ClassFile.FieldType.long)) ∈ lw_all := lw_g (lw_at lw_m22 140 rfl) rfl
theorem q5573 : (Jvm.Cond.methodLink "WasteHouse$HouseRoom" (278 : Nat) ({ cls := "WasteHouse$PartGraphs$Product", name := "comesOff", desc := "(I)I" } : Jvm.MethodName)) ∈ lw_all := lw_g (lw_at lw_m22 141 rfl) rfl
theorem q5585 : (Jvm.Cond.methodLink "WasteHouse$HouseRoom" (298 : Nat) ({ cls := "WasteHouse$ApartCost", name := "act", desc := "(IIIJ)I" } : Jvm.MethodName)) ∈ lw_all := lw_g (lw_at lw_m22 153 rfl) rfl
theorem q5586 : (Jvm.Cond.methodLink "WasteHouse$HouseRoom" (304 : Nat) ({ cls := "WasteHouse$PartGraphs", name := "before", desc := "(II)I" } : Jvm.MethodName)) ∈ lw_all := lw_g (lw_at lw_m22 154 rfl) rfl
theorem q5599 : (Jvm.Cond.methodLink "WasteHouse$HouseRoom" (307 : Nat) ({ cls := "WasteHouse$ApartCost", name := "before", desc := "(II)Z" } : Jvm.MethodName)) ∈ lw_all := lw_g (lw_at lw_m22 167 rfl) rfl
theorem q5600 : (Jvm.Cond.methodLink "WasteHouse$HouseRoom" (125 : Nat) ({ cls := "WasteHouse$HouseRoom", name := "refund", desc := "(IJIIJ)J" } : Jvm.MethodName)) ∈ lw_all := lw_g (lw_at lw_m22 168 rfl) rfl
theorem q5601 : (Jvm.Cond.privateMethod ({ cls := "WasteHouse$HouseRoom", name := "refund", desc := "(IJIIJ)J" } : Jvm.MethodName)) ∈ lw_tbl := lw_at lw_m22 169 rfl
theorem q5602 : (Jvm.Cond.instanceMethod ({ cls := "WasteHouse$HouseRoom", name := "refund", desc := "(IJIIJ)J" } : Jvm.MethodName)) ∈ lw_all := lw_g (lw_at lw_m22 170 rfl) rfl
theorem q5603 : (Jvm.Cond.code ({ cls := "WasteHouse$HouseRoom", name := "refund", desc := "(IJIIJ)J" } : Jvm.MethodName) prog_24_method_10_code (9 : Nat) (Option.some Jvm.ClassFile.FieldType.long)) ∈ lw_all := lw_g (lw_at lw_m22 171 rfl) rfl
theorem q5604 : (Jvm.Cond.methodLink "WasteHouse$HouseRoom" (310 : Nat) ({ cls := "WasteHouse$DepositCodes", name := "give", desc := "(IJIIJ)I" } : Jvm.MethodName)) ∈ lw_all := lw_g (lw_at lw_m22 172 rfl) rfl
theorem q5605 : (Jvm.Cond.constantLong "WasteHouse$HouseRoom" (316 : Nat) (25 : Int64)) ∈ lw_all := lw_g (lw_at lw_m22 173 rfl) rfl
theorem q5606 : (Jvm.Cond.methodLink "WasteHouse$HouseRoom" (128 : Nat) ({ cls := "WasteHouse$HouseRoom", name := "fee", desc := "(IJ)J" } : Jvm.MethodName)) ∈ lw_all := lw_g (lw_at lw_m22 174 rfl) rfl
theorem q5607 : (Jvm.Cond.privateMethod ({ cls := "WasteHouse$HouseRoom", name := "fee", desc := "(IJ)J" } : Jvm.MethodName)) ∈ lw_tbl := lw_at lw_m22 175 rfl
theorem q5608 : (Jvm.Cond.instanceMethod ({ cls := "WasteHouse$HouseRoom", name := "fee", desc := "(IJ)J" } : Jvm.MethodName)) ∈ lw_all := lw_g (lw_at lw_m22 176 rfl) rfl
theorem q5609 : (Jvm.Cond.code ({ cls := "WasteHouse$HouseRoom", name := "fee", desc := "(IJ)J" } : Jvm.MethodName) prog_24_method_11_code (9 : Nat) (Option.some Jvm.ClassFile.FieldType.long)) ∈ lw_all := lw_g (lw_at lw_m22 177 rfl) rfl
theorem q5610 : (Jvm.Cond.constantLong "WasteHouse$HouseRoom" (318 : Nat) (1000000 : Int64)) ∈ lw_all := lw_g (lw_at lw_m22 178 rfl) rfl
theorem q5611 : (Jvm.Cond.methodLink "WasteHouse$HouseRoom" (320 : Nat) ({ cls := "WasteHouse$TicketChain", name := "share", desc := "(II)J" } : Jvm.MethodName)) ∈ lw_all := lw_g (lw_at lw_m22 179 rfl) rfl
theorem q5633 : (Jvm.Cond.methodLink "WasteHouse$HouseRoom" (137 : Nat) ({ cls := "WasteHouse$HouseRoom", name := "entry", desc := "(II)J" } : Jvm.MethodName)) ∈ lw_all := lw_g (lw_at lw_m22 201 rfl) rfl
theorem q5634 : (Jvm.Cond.privateMethod ({ cls := "WasteHouse$HouseRoom", name := "entry", desc := "(II)J" } : Jvm.MethodName)) ∈ lw_tbl := lw_at lw_m22 202 rfl
theorem q5635 : (Jvm.Cond.instanceMethod ({ cls := "WasteHouse$HouseRoom", name := "entry", desc := "(II)J" } : Jvm.MethodName)) ∈ lw_all := lw_g (lw_at lw_m22 203 rfl) rfl
theorem q5636 : (Jvm.Cond.code ({ cls := "WasteHouse$HouseRoom", name := "entry", desc := "(II)J" } : Jvm.MethodName) prog_24_method_12_code (4 : Nat) (Option.some Jvm.ClassFile.FieldType.long)) ∈ lw_all := lw_g (lw_at lw_m22 204 rfl) rfl
theorem q5637 : (Jvm.Cond.methodLink "WasteHouse$HouseRoom" (326 : Nat) ({ cls := "java/util/ArrayList", name := "size", desc := "()I" } : Jvm.MethodName)) ∈ lw_all := lw_g (lw_at lw_m22 205 rfl) rfl
theorem q5638 : (Jvm.Cond.methodLink "WasteHouse$HouseRoom" (331 : Nat) ({ cls := "java/util/ArrayList", name := "get", desc := "(I)Ljava/lang/Object;" } : Jvm.MethodName)) ∈ lw_all := lw_g (lw_at lw_m22 206 rfl) rfl
theorem q5639 : (Jvm.Cond.classLink "WasteHouse$HouseRoom" (335 : Nat) "WasteHouse$Entry") ∈ lw_all := lw_g (lw_at lw_m22 207 rfl) rfl
theorem q5640 : (Jvm.Cond.methodLink "WasteHouse$HouseRoom" (337 : Nat) ({ cls := "WasteHouse$Entry", name := "debit", desc := "()I" } : Jvm.MethodName)) ∈ lw_all := lw_g (lw_at lw_m22 208 rfl) rfl
theorem q5644 : (Jvm.Cond.methodLink "WasteHouse$HouseRoom" (340 : Nat) ({ cls := "WasteHouse$Entry", name := "credit", desc := "()I" } : Jvm.MethodName)) ∈ lw_all := lw_g (lw_at lw_m22 212 rfl) rfl
theorem q5648 : (Jvm.Cond.methodLink "WasteHouse$HouseRoom" (343 : Nat) ({ cls := "WasteHouse$Entry", name := "cents", desc := "()J" } : Jvm.MethodName)) ∈ lw_all := lw_g (lw_at lw_m22 216 rfl) rfl
theorem q5652 : (Jvm.Cond.methodLink "WasteHouse$HouseRoom" (141 : Nat) ({ cls := "WasteHouse$TicketChain", name := "check", desc := "(I)I" } : Jvm.MethodName)) ∈ lw_all := lw_g (lw_at lw_m22 220 rfl) rfl
theorem q5668 : (Jvm.Cond.methodLink "WasteHouse$HouseRoom" (147 : Nat) ({ cls := "WasteHouse$Ledger", name := "isEven", desc := "()Z" } : Jvm.MethodName)) ∈ lw_all := lw_g (lw_at lw_m22 236 rfl) rfl
theorem q5672 : (Jvm.Cond.methodLink "WasteHouse$HouseRoom" (151 : Nat) ({ cls := "WasteHouse$BarredStores", name := "kept", desc := "()Z" } : Jvm.MethodName)) ∈ lw_all := lw_g (lw_at lw_m23 0 rfl) rfl
theorem q5676 : (Jvm.Cond.methodLink "WasteHouse$HouseRoom" (156 : Nat) ({ cls := "WasteHouse$HouseRoom", name := "bit", desc := "(Z)J" } : Jvm.MethodName)) ∈ lw_all := lw_g (lw_at lw_m23 4 rfl) rfl
theorem q5677 : (Jvm.Cond.sameMethod "WasteHouse$HouseRoom" "WasteHouse$Room" "bit" "(Z)J") ∈ lw_all := lw_g (lw_at lw_m23 5 rfl) rfl
theorem q9604 : (Jvm.Cond.selects "WasteHouse$HouseRoom" ({ cls := "WasteHouse$HouseRoom", name := "call", desc := "(I[J)J" } : Jvm.MethodName) ({ cls := "WasteHouse$HouseRoom", name := "call", desc := "(I[J)J" } : Jvm.MethodName)) ∈ lw_all := lw_g (lw_at lw_m39 92 rfl) rfl
theorem q9611 : (Jvm.Cond.castable "WasteHouse$HouseRoom" "WasteHouse$Room") ∈ lw_tbl := lw_at lw_m39 99 rfl
theorem q9660 : (Jvm.Cond.castable "WasteHouse$HouseRoom" "java/lang/Object") ∈ lw_tbl := lw_at lw_m39 148 rfl
theorem in_X37 : ∀ w ∈ wsX370, w ∈ lw_all := lw_in wsX370 [2134, 2136, 2138, 2108, 2110, 2112, 2114, 2116, 2118, 2120, 2122, 2124, 2126, 2128, 2130, 2132] (by decide +kernel) (by decide +kernel)
